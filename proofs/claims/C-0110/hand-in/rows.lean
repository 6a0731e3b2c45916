section
/-! rows pasted from the kit's rows (starting text): PURE-ROWS, BITS -/
theorem pk_us {f : Nat → Int32} {k : Nat} {x : Int32} : upd f k x k = x := if_pos rfl
theorem pk_un {f : Nat → Int32} {k j : Nat} {x : Int32} (h : j ≠ k) : upd f k x j = f j := if_neg h
theorem pk_sub {a b : Nat} (h : b ≤ a) : nI a - nI b = nI (a - b) := by
  obtain ⟨c, rfl⟩ : ∃ c, a = c + b := ⟨a - b, by omega⟩
  rw [← nI_add, Int32.add_sub_cancel, Nat.add_sub_cancel]
theorem pk_m1 (n : Nat) : nI (n + 1) + (-1) = nI n := by
  rw [← nI_1, Int32.add_assoc, show (1 : Int32) + (-1) = 0 from rfl, Int32.add_zero]
theorem pk_mul (a b : Nat) : nI a * nI b = nI (a * b) := (Int32.ofNat_mul a b).symm
theorem pk_ix (x : Int32) {n : Nat} (hn : n < 2 ^ 31) : x < 0 ∨ nI n ≤ x ∨ ∃ j : Nat, j < n ∧ x = nI j := by
  by_cases h : x < 0
  · exact Or.inl h
  · obtain ⟨j, hj, rfl⟩ := nI_of h
    by_cases h2 : j < n
    · exact Or.inr (Or.inr ⟨j, h2, rfl⟩)
    · exact Or.inr (Or.inl (nI_le (by omega) hj))
theorem pk_le {x y : Int32} {A B : Prop} (a b : Nat) (f : a ≤ b → A) (g : b < a → B) (hx : x = nI a := by rfl) (hy : y = nI b := by rfl) (ha : a < 2 ^ 31 := by omega) (hb : b < 2 ^ 31 := by omega) : (x ≤ y → A) ∧ (¬ x ≤ y → B) := by
  subst hx hy
  rw [nI_leI ha hb]
  exact ⟨f, fun z => g (by omega)⟩
theorem pk_lt {x y : Int32} {A B : Prop} (a b : Nat) (f : a < b → A) (g : b ≤ a → B) (hx : x = nI a := by rfl) (hy : y = nI b := by rfl) (ha : a < 2 ^ 31 := by omega) (hb : b < 2 ^ 31 := by omega) : (x < y → A) ∧ (¬ x < y → B) := by
  subst hx hy
  rw [nI_ltI ha hb]
  exact ⟨f, fun z => g (by omega)⟩
theorem pk_eq {x y : Int32} {A B : Prop} (a b : Nat) (f : a = b → A) (g : a ≠ b → B) (hx : x = nI a := by rfl) (hy : y = nI b := by rfl) (ha : a < 2 ^ 31 := by omega) (hb : b < 2 ^ 31 := by omega) : (x = y → A) ∧ (¬ x = y → B) := by
  subst hx hy
  rw [nI_eq ha hb]
  exact ⟨f, g⟩
theorem pk_in {x : Int32} (n N : Nat) (h : n < N) (hx : x = nI n := by rfl) (hN : N < 2 ^ 31 := by omega) : vp_in x N := by
  subst hx
  exact vp_in_nI h hN
theorem pk_cl {x : Int32} (n : Nat) (hx : x = nI n := by rfl) (h : n < 2 ^ 31 := by omega) : x.toNatClampNeg = n := by
  subst hx
  exact nI_clamp h
theorem pk_least (P : Nat → Prop) (h : ∃ k, P k) : ∃ k, P k ∧ ∀ j, j < k → ¬ P j := by
  obtain ⟨k, hk⟩ := h
  induction k using Nat.strongRecOn with
  | ind k ih =>
    by_cases e : ∃ j, j < k ∧ P j
    · obtain ⟨j, hj, pj⟩ := e
      exact ih j hj pj
    · exact ⟨k, hk, fun j hj pj => e ⟨j, hj, pj⟩⟩
def bt (x : Int32) (i : Nat) : Bool := x.toBitVec.getLsbD i
theorem b_ext {x y : Int32} (h : ∀ i, i < 32 → bt x i = bt y i) : x = y := Int32.toBitVec_inj.mp (BitVec.eq_of_getLsbD_eq (fun i hi => h i hi))
theorem b_or (x y : Int32) (i : Nat) : bt (x ||| y) i = (bt x i || bt y i) := by unfold bt; rw [Int32.toBitVec_or, BitVec.getLsbD_or]
theorem b_and (x y : Int32) (i : Nat) : bt (x &&& y) i = (bt x i && bt y i) := by unfold bt; rw [Int32.toBitVec_and, BitVec.getLsbD_and]
theorem b_big {x : Int32} {i : Nat} (h : 32 ≤ i) : bt x i = false := BitVec.getLsbD_of_ge _ _ h
theorem b_0 (i : Nat) : bt 0 i = false := BitVec.getLsbD_zero
theorem s_l : ∀ n, n < 32 → ((nI n &&& 31).toBitVec.smod 32).toNat = n := by decide +kernel
theorem b_shl (n : Nat) (hn : n < 32) (x : Int32) {i : Nat} (hi : i < 32) : bt (x <<< (nI n &&& 31)) i = (decide (n ≤ i) && bt x (i - n)) := by
  unfold bt
  rw [Int32.toBitVec_shiftLeft]
  show (x.toBitVec <<< ((nI n &&& 31).toBitVec.smod 32).toNat).getLsbD i = _
  rw [s_l n hn, BitVec.getLsbD_shiftLeft]
  rcases Nat.lt_or_ge i n with h | h
  · simp [h, Nat.not_le.mpr h]
  · simp [hi, h, Nat.not_lt.mpr h]
theorem b_sshr (n : Nat) (hn : n < 32) (x : Int32) {i : Nat} (hi : i < 32) : bt (x >>> (nI n &&& 31)) i = if n + i < 32 then bt x (n + i) else bt x 31 := by
  unfold bt
  rw [Int32.toBitVec_shiftRight]
  show (x.toBitVec.sshiftRight ((nI n &&& 31).toBitVec.smod 32).toNat).getLsbD i = _
  rw [s_l n hn, BitVec.getLsbD_sshiftRight, BitVec.msb_eq_getLsbD_last]
  simp [hi]
end
section
/-! numbers and bits -/
theorem sq_b1 : ∀ i, i < 32 → 0 < i → bt 1 i = false := by decide +kernel
theorem sq_b10 : bt 1 0 = true := by decide +kernel
theorem sq_bit {x : Int32} {n : Nat} (hn : n < 32) : ((x >>> (nI n &&& 31)) &&& 1 = 1) ↔ bt x n = true := by
  have e : bt (x >>> (nI n &&& 31)) 0 = bt x n := by
    rw [b_sshr n hn x (by omega), if_pos (by omega)]
    rfl
  rw [← e]
  generalize x >>> (nI n &&& 31) = y
  constructor
  · intro h
    have h2 := b_and y 1 0
    rw [h, sq_b10, Bool.and_true] at h2
    exact h2.symm
  · intro h
    apply b_ext
    intro i hi
    rw [b_and]
    rcases Nat.eq_zero_or_pos i with rfl | hp
    · rw [h, Bool.true_and]
    · rw [sq_b1 i hi hp, Bool.and_false]
theorem sq_one {n i : Nat} (hn : n < 32) (hi : i < 32) : bt ((1 : Int32) <<< (nI n &&& 31)) i = decide (i = n) := by
  rw [b_shl n hn 1 hi]
  rcases Nat.lt_trichotomy i n with h | h | h
  · rw [decide_eq_false (by omega : ¬ n ≤ i), decide_eq_false (by omega : ¬ i = n), Bool.false_and]
  · rw [decide_eq_true (by omega : n ≤ i), decide_eq_true h, h, Nat.sub_self, sq_b10, Bool.true_and]
  · rw [sq_b1 (i - n) (by omega) (by omega), decide_eq_false (by omega : ¬ i = n), Bool.and_false]
theorem sq_set {x : Int32} {n i : Nat} (hn : n < 32) (hi : i < 32) : bt (x ||| ((1 : Int32) <<< (nI n &&& 31))) i = true ↔ bt x i = true ∨ i = n := by
  rw [b_or, sq_one hn hi, Bool.or_eq_true, decide_eq_true_eq]
theorem sq_one' {n i : Nat} (hn : n < 32) (hi : i < 32) : bt ((1 : Int32) <<< (nI n &&& 31)) i = true ↔ i = n := by
  rw [sq_one hn hi, decide_eq_true_eq]
theorem sq_m1lt : (-1 : Int32) < 0 := by decide
theorem sq_ne1 {a : Nat} (h : a < 2 ^ 31) : ¬ nI a = -1 := by
  intro e
  have := nI_pos (n := a) h
  rw [e] at this
  exact this sq_m1lt
theorem sq_vb0 : vp_nar .boolean 0 = 0 := by decide
theorem sq_vb1 : vp_nar .boolean 1 = 1 := by decide
theorem sq_im {a b : Nat} (h : nI a = nI b) (ha : a < 2 ^ 31) (hb : b < 2 ^ 31) : a = b := (nI_eq ha hb).mp h
theorem sq_l03 : (0 : Int32) < 3 := by decide
theorem sq_l13 : (1 : Int32) < 3 := by decide
theorem sq_l23 : (2 : Int32) < 3 := by decide
theorem sq_n33 : ¬ (3 : Int32) < 3 := by decide
theorem sq_n43 : ¬ (4 : Int32) < 3 := by decide
theorem sq_n53 : ¬ (5 : Int32) < 3 := by decide
theorem sq_n44 : ¬ (4 : Int32) < 4 := by decide
theorem sq_n54 : ¬ (5 : Int32) < 4 := by decide
/-! registers, faults, one instruction -/
def sx_RG (x : Int32) : Prop := ∃ j : Nat, j < 8 ∧ x = nI j
theorem sx_RG_in {x : Int32} (h : sx_RG x) : vp_in x 8 := by
  obtain ⟨j, hj, rfl⟩ := h
  exact vp_in_nI hj (by omega)
theorem sx_RG_of {x : Int32} (h0 : ¬ x < 0) (h7 : x ≤ 7) : sx_RG x := by
  obtain ⟨j, hj, e⟩ := nI_of2 (M := 7) (n := 7) (by decide) h0 h7
  exact ⟨j, by omega, e⟩
theorem sx_RG_n {x : Int32} (h : sx_RG x) : ¬ x < 0 ∧ x ≤ 7 := by
  obtain ⟨j, hj, rfl⟩ := h
  exact ⟨nI_pos (by omega), nI_le (b := 7) (by omega) (by omega)⟩
theorem sx_RG_inj {x y : Int32} (hx : sx_RG x) (hy : sx_RG y) (e : x.toNatClampNeg = y.toNatClampNeg) : x = y := by
  obtain ⟨j, hj, rfl⟩ := hx
  obtain ⟨k, hk, rfl⟩ := hy
  rw [nI_clamp (by omega), nI_clamp (by omega)] at e
  rw [e]
theorem sx_RG_c {x : Int32} (h : sx_RG x) : x = nI x.toNatClampNeg ∧ x.toNatClampNeg < 8 := by
  obtain ⟨j, hj, rfl⟩ := h
  rw [nI_clamp (by omega)]
  exact ⟨rfl, hj⟩
def sx_fa (bar : Nat → Int32) (x : Int32) : Bool := decide (x < 0) || (decide (¬ x ≤ 15) || decide (¬ bar x.toNatClampNeg = 0))
theorem sx_fa_f {bar : Nat → Int32} {x : Int32} : sx_fa bar x = false ↔ ¬ x < 0 ∧ x ≤ 15 ∧ bar x.toNatClampNeg = 0 := by
  unfold sx_fa
  rw [Bool.or_eq_false_iff, Bool.or_eq_false_iff, decide_eq_false_iff_not, decide_eq_false_iff_not, decide_eq_false_iff_not, Decidable.not_not, Decidable.not_not]
theorem sx_fa_e {bar : Nat → Int32} {x : Int32} (h : sx_fa bar x = false) : ∃ j : Nat, j < 16 ∧ x = nI j := by
  obtain ⟨h0, h1, _⟩ := sx_fa_f.mp h
  obtain ⟨j, hj, e⟩ := nI_of2 (M := 15) (n := 15) (by decide) h0 h1
  exact ⟨j, by omega, e⟩
theorem sx_fa_in {bar : Nat → Int32} {x : Int32} (h : sx_fa bar x = false) : vp_in x 16 := by
  obtain ⟨j, hj, rfl⟩ := sx_fa_e h
  exact vp_in_nI hj (by omega)
theorem sx_fa_inj {bar : Nat → Int32} {x y : Int32} (hx : sx_fa bar x = false) (hy : sx_fa bar y = false) (e : x.toNatClampNeg = y.toNatClampNeg) : x = y := by
  obtain ⟨j, hj, rfl⟩ := sx_fa_e hx
  obtain ⟨k, hk, rfl⟩ := sx_fa_e hy
  rw [nI_clamp (by omega), nI_clamp (by omega)] at e
  rw [e]
/-- how instruction (op, l, v) ends: 0 it goes on, 1 left, 2 faulted -/
def sx_en (bar : Nat → Int32) (op l v : Int32) (R : Nat → Int32) : Int32 :=
  if op = 5 then (if R l.toNatClampNeg = 0 then 0 else 1)
  else if op = 3 then (if sx_fa bar (R l.toNatClampNeg + v) = true then 2 else 0)
  else if op = 4 then (if sx_fa bar (R l.toNatClampNeg + v) = true then 2 else 0) else 0
/-- the registers behind it -/
def sx_rg (bar : Nat → Int32) (op d l r v : Int32) (R M : Nat → Int32) : Nat → Int32 :=
  if op = 0 then upd R d.toNatClampNeg v
  else if op = 1 then upd R d.toNatClampNeg (R l.toNatClampNeg + R r.toNatClampNeg)
  else if op = 2 then upd R d.toNatClampNeg (R l.toNatClampNeg - R r.toNatClampNeg)
  else if op = 3 then (if sx_fa bar (R l.toNatClampNeg + v) = true then R else upd R d.toNatClampNeg (M (R l.toNatClampNeg + v).toNatClampNeg))
  else R
/-- the memory behind it -/
def sx_mm (bar : Nat → Int32) (op l r v : Int32) (R M : Nat → Int32) : Nat → Int32 :=
  if op = 4 then (if sx_fa bar (R l.toNatClampNeg + v) = true then M else upd M (R l.toNatClampNeg + v).toNatClampNeg (R r.toNatClampNeg)) else M
section
variable {bar R M : Nat → Int32} {d l r v : Int32}
theorem sx_en0 : sx_en bar 0 l v R = 0 := rfl
theorem sx_en1 : sx_en bar 1 l v R = 0 := rfl
theorem sx_en2 : sx_en bar 2 l v R = 0 := rfl
theorem sx_en3 : sx_en bar 3 l v R = if sx_fa bar (R l.toNatClampNeg + v) = true then 2 else 0 := rfl
theorem sx_en4 : sx_en bar 4 l v R = if sx_fa bar (R l.toNatClampNeg + v) = true then 2 else 0 := rfl
theorem sx_en5 : sx_en bar 5 l v R = if R l.toNatClampNeg = 0 then 0 else 1 := rfl
theorem sx_rg0 : sx_rg bar 0 d l r v R M = upd R d.toNatClampNeg v := rfl
theorem sx_rg1 : sx_rg bar 1 d l r v R M = upd R d.toNatClampNeg (R l.toNatClampNeg + R r.toNatClampNeg) := rfl
theorem sx_rg2 : sx_rg bar 2 d l r v R M = upd R d.toNatClampNeg (R l.toNatClampNeg - R r.toNatClampNeg) := rfl
theorem sx_rg3 : sx_rg bar 3 d l r v R M = if sx_fa bar (R l.toNatClampNeg + v) = true then R else upd R d.toNatClampNeg (M (R l.toNatClampNeg + v).toNatClampNeg) := rfl
theorem sx_rg4 : sx_rg bar 4 d l r v R M = R := rfl
theorem sx_rg5 : sx_rg bar 5 d l r v R M = R := rfl
theorem sx_mm0 : sx_mm bar 0 l r v R M = M := rfl
theorem sx_mm1 : sx_mm bar 1 l r v R M = M := rfl
theorem sx_mm2 : sx_mm bar 2 l r v R M = M := rfl
theorem sx_mm3 : sx_mm bar 3 l r v R M = M := rfl
theorem sx_mm4 : sx_mm bar 4 l r v R M = if sx_fa bar (R l.toNatClampNeg + v) = true then M else upd M (R l.toNatClampNeg + v).toNatClampNeg (R r.toNatClampNeg) := rfl
theorem sx_mm5 : sx_mm bar 5 l r v R M = M := rfl
end
/-- the forms of an instruction -/
def sx_WF (op d l r : Int32) : Prop :=
  (op = 0 ∧ sx_RG d) ∨ (op = 1 ∧ sx_RG d ∧ sx_RG l ∧ sx_RG r) ∨ (op = 2 ∧ sx_RG d ∧ sx_RG l ∧ sx_RG r) ∨ (op = 3 ∧ sx_RG d ∧ sx_RG l) ∨ (op = 4 ∧ sx_RG l ∧ sx_RG r) ∨ (op = 5 ∧ sx_RG l)
/-- the two rows of one instruction -/
def sx_PR (op d l r v k a b c : Int32) : Prop :=
  (op = 0 ∧ k = 0 ∧ sx_RG d ∧ a = d ∧ b = v) ∨
  (op = 1 ∧ k = 1 ∧ sx_RG d ∧ sx_RG l ∧ sx_RG r ∧ a = d ∧ b = l ∧ c = r) ∨
  (op = 2 ∧ k = 2 ∧ sx_RG d ∧ sx_RG l ∧ sx_RG r ∧ a = d ∧ b = l ∧ c = r) ∨
  (op = 3 ∧ k = 3 ∧ sx_RG d ∧ sx_RG l ∧ a = d ∧ b = l ∧ c = v) ∨
  (op = 4 ∧ k = 4 ∧ sx_RG l ∧ sx_RG r ∧ a = l ∧ b = v ∧ c = r) ∨
  (op = 5 ∧ k = 5 ∧ sx_RG l ∧ a = l)
theorem sx_PR_WF {op d l r v k a b c : Int32} (h : sx_PR op d l r v k a b c) : sx_WF op d l r := by
  rcases h with ⟨e, _, h, _⟩ | ⟨e, _, h, h2, h3, _⟩ | ⟨e, _, h, h2, h3, _⟩ | ⟨e, _, h, h2, _⟩ | ⟨e, _, h, h2, _⟩ | ⟨e, _, h, _⟩
  · exact Or.inl ⟨e, h⟩
  · exact Or.inr (Or.inl ⟨e, h, h2, h3⟩)
  · exact Or.inr (Or.inr (Or.inl ⟨e, h, h2, h3⟩))
  · exact Or.inr (Or.inr (Or.inr (Or.inl ⟨e, h, h2⟩)))
  · exact Or.inr (Or.inr (Or.inr (Or.inr (Or.inl ⟨e, h, h2⟩))))
  · exact Or.inr (Or.inr (Or.inr (Or.inr (Or.inr ⟨e, h⟩))))
theorem sx_en_012 {bar R : Nat → Int32} {op l v : Int32} : sx_en bar op l v R = 0 ∨ sx_en bar op l v R = 1 ∨ sx_en bar op l v R = 2 := by
  unfold sx_en
  repeat' split
  all_goals first | exact Or.inl rfl | exact Or.inr (Or.inl rfl) | exact Or.inr (Or.inr rfl)
/-- an instruction that ends the run changes nothing -/
theorem sx_en_keep {bar R M : Nat → Int32} {op d l r v : Int32} (w : sx_WF op d l r) (h : ¬ sx_en bar op l v R = 0) : sx_rg bar op d l r v R M = R ∧ sx_mm bar op l r v R M = M := by
  rcases w with ⟨rfl, _⟩ | ⟨rfl, _⟩ | ⟨rfl, _⟩ | ⟨rfl, _⟩ | ⟨rfl, _⟩ | ⟨rfl, _⟩
  · exact absurd sx_en0 h
  · exact absurd sx_en1 h
  · exact absurd sx_en2 h
  · rw [sx_en3] at h
    by_cases f : sx_fa bar (R l.toNatClampNeg + v) = true
    · rw [sx_rg3, if_pos f, sx_mm3]; exact ⟨rfl, rfl⟩
    · rw [if_neg f] at h; exact absurd rfl h
  · rw [sx_en4] at h
    by_cases f : sx_fa bar (R l.toNatClampNeg + v) = true
    · rw [sx_rg4, sx_mm4, if_pos f]; exact ⟨rfl, rfl⟩
    · rw [if_neg f] at h; exact absurd rfl h
  · exact ⟨sx_rg5, sx_mm5⟩
/-- what it doesn't write stays -/
theorem sx_rg_n {bar R M : Nat → Int32} {op d l r v : Int32} (w : sx_WF op d l r) {q : Nat} (h : ¬ (op < 4 ∧ d.toNatClampNeg = q)) : sx_rg bar op d l r v R M q = R q := by
  rcases w with ⟨rfl, _⟩ | ⟨rfl, _⟩ | ⟨rfl, _⟩ | ⟨rfl, _⟩ | ⟨rfl, _⟩ | ⟨rfl, _⟩
  · rw [sx_rg0]; exact pk_un (fun e => h ⟨by decide, e.symm⟩)
  · rw [sx_rg1]; exact pk_un (fun e => h ⟨by decide, e.symm⟩)
  · rw [sx_rg2]; exact pk_un (fun e => h ⟨by decide, e.symm⟩)
  · rw [sx_rg3]
    split
    · rfl
    · exact pk_un (fun e => h ⟨by decide, e.symm⟩)
  · rw [sx_rg4]
  · rw [sx_rg5]
theorem sx_mm_n {bar R M : Nat → Int32} {op l r v : Int32} (h : op < 3) : sx_mm bar op l r v R M = M := by
  unfold sx_mm
  rw [if_neg]
  intro e
  rw [e] at h
  exact absurd h (by decide)
/-- what an instruction does hangs on what it reads alone -/
theorem sx_cong {bar R M R' M' : Nat → Int32} {op d l r v : Int32} (w : sx_WF op d l r)
    (hr : ∀ q : Nat, q < 8 → (¬ op < 3 ∨ l = nI q ∨ r = nI q) → R' q = R q) (hm : ¬ op < 3 → M' = M) :
    sx_en bar op l v R' = sx_en bar op l v R ∧
    (∀ q : Nat, op < 4 ∧ d.toNatClampNeg = q → sx_rg bar op d l r v R' M' q = sx_rg bar op d l r v R M q) ∧
    (¬ op < 3 → sx_mm bar op l r v R' M' = sx_mm bar op l r v R M) := by
  rcases w with ⟨rfl, _⟩ | ⟨rfl, _, hl, h2⟩ | ⟨rfl, _, hl, h2⟩ | ⟨rfl, _, hl⟩ | ⟨rfl, hl, h2⟩ | ⟨rfl, hl⟩
  · refine ⟨sx_en0.trans sx_en0.symm, fun q hq => ?_, fun h => absurd sq_l03 h⟩
    rw [sx_rg0, sx_rg0, hq.2, pk_us, pk_us]
  · obtain ⟨el, ll⟩ := sx_RG_c hl
    obtain ⟨e2, l2⟩ := sx_RG_c h2
    refine ⟨sx_en1.trans sx_en1.symm, fun q hq => ?_, fun h => absurd sq_l13 h⟩
    rw [sx_rg1, sx_rg1, hq.2, pk_us, pk_us, hr _ ll (Or.inr (Or.inl el)), hr _ l2 (Or.inr (Or.inr e2))]
  · obtain ⟨el, ll⟩ := sx_RG_c hl
    obtain ⟨e2, l2⟩ := sx_RG_c h2
    refine ⟨sx_en2.trans sx_en2.symm, fun q hq => ?_, fun h => absurd sq_l23 h⟩
    rw [sx_rg2, sx_rg2, hq.2, pk_us, pk_us, hr _ ll (Or.inr (Or.inl el)), hr _ l2 (Or.inr (Or.inr e2))]
  · obtain ⟨el, ll⟩ := sx_RG_c hl
    have e := hr _ ll (Or.inr (Or.inl el))
    have em := hm sq_n33
    subst em
    refine ⟨by rw [sx_en3, sx_en3, e], fun q hq => ?_, fun _ => sx_mm3.trans sx_mm3.symm⟩
    rw [sx_rg3, sx_rg3, e]
    by_cases f : sx_fa bar (R l.toNatClampNeg + v) = true
    · rw [if_pos f, if_pos f]
      obtain ⟨ed, ld⟩ := sx_RG_c (by assumption : sx_RG d)
      rw [← hq.2]
      exact hr _ ld (Or.inl sq_n33)
    · rw [if_neg f, if_neg f, hq.2, pk_us, pk_us]
  · obtain ⟨el, ll⟩ := sx_RG_c hl
    obtain ⟨e2, l2⟩ := sx_RG_c h2
    have e := hr _ ll (Or.inr (Or.inl el))
    have em := hm sq_n43
    subst em
    refine ⟨by rw [sx_en4, sx_en4, e], fun q hq => absurd hq.1 sq_n44, fun _ => ?_⟩
    rw [sx_mm4, sx_mm4, e, hr _ l2 (Or.inr (Or.inr e2))]
  · obtain ⟨el, ll⟩ := sx_RG_c hl
    have e := hr _ ll (Or.inr (Or.inl el))
    have em := hm sq_n53
    subst em
    exact ⟨by rw [sx_en5, sx_en5, e], fun q hq => absurd hq.1 sq_n54, fun _ => sx_mm5.trans sx_mm5.symm⟩
end
section
/-! the program run in its own order; a schedule; what holds at place p of the schedule -/
/-- registers and memory behind the first k instructions, in program order, endings not heeded -/
def sx_T (op d l r v bar R0 M0 : Nat → Int32) : Nat → (Nat → Int32) × (Nat → Int32)
  | 0 => (R0, M0)
  | k + 1 => (sx_rg bar (op k) (d k) (l k) (r k) (v k) (sx_T op d l r v bar R0 M0 k).1 (sx_T op d l r v bar R0 M0 k).2,
      sx_mm bar (op k) (l k) (r k) (v k) (sx_T op d l r v bar R0 M0 k).1 (sx_T op d l r v bar R0 M0 k).2)
def sx_dep (op d l r : Nat → Int32) (i j : Nat) : Prop :=
  ¬ op i < 3 ∨ ¬ op j < 3 ∨ d i = d j ∨ (l j = d i ∨ r j = d i) ∨ (l i = d j ∨ r i = d j)
def sx_wr (op d : Nat → Int32) (i q : Nat) : Prop := op i < 4 ∧ (d i).toNatClampNeg = q
/-- operation n is there when the first j instructions have been entered -/
def sx_UJ (op : Nat → Int32) (j n : Nat) : Prop := (n < 14 ∧ n < j) ∨ (14 ≤ n ∧ n < 14 + j ∧ op (n - 14) = 3)
def sx_SC (c L : Nat) (op d l r ord : Nat → Int32) : Prop :=
  L ≤ 28 ∧ (∀ p, p < L → ∃ n, n < 28 ∧ ord p = nI n ∧ sx_UJ op c n) ∧ (∀ p q, p < q → q < L → ord p ≠ ord q) ∧
  (∀ i, i < c → ∃ p, p < L ∧ ord p = nI i) ∧
  (∀ p i j, p < L → i < j → j < c → ord p = nI j → sx_dep op d l r i j → ∃ q, q < p ∧ ord q = nI i)
def sx_dn (ord : Nat → Int32) (p i : Nat) : Prop := ∃ q, q < p ∧ ord q = nI i
/-- f is the first instruction that ends the run, or c if none does -/
def sx_Out (c f : Nat) (op d l r v bar R0 M0 : Nat → Int32) : Prop :=
  f ≤ c ∧ (∀ i, i < f → sx_en bar (op i) (l i) (v i) (sx_T op d l r v bar R0 M0 i).1 = 0) ∧
  (f < c → ¬ sx_en bar (op f) (l f) (v f) (sx_T op d l r v bar R0 M0 f).1 = 0)
def sx_RI (c : Nat) (op d l r v bar R0 M0 ord : Nat → Int32) (p : Nat) (reg : Nat → Int32) : Prop :=
  ∀ q k, k ≤ c → (∀ i, i < k → sx_wr op d i q → sx_dn ord p i) → (∀ i, k ≤ i → i < c → sx_wr op d i q → ¬ sx_dn ord p i) →
    reg q = (sx_T op d l r v bar R0 M0 k).1 q
def sx_MI (c : Nat) (op d l r v bar R0 M0 ord : Nat → Int32) (p : Nat) (mem : Nat → Int32) : Prop :=
  ∀ k, k ≤ c → (∀ i, i < k → ¬ op i < 3 → sx_dn ord p i) → (∀ i, k ≤ i → i < c → ¬ op i < 3 → ¬ sx_dn ord p i) →
    mem = (sx_T op d l r v bar R0 M0 k).2
def sx_EI (c : Nat) (op d l r v bar R0 M0 ord : Nat → Int32) (p : Nat) : Prop :=
  ∀ i, i < c → sx_dn ord p i → sx_en bar (op i) (l i) (v i) (sx_T op d l r v bar R0 M0 i).1 = 0
section
variable {c L : Nat} {a_op a_dest a_left a_right a_value a_barred a_order R0 M0 : Nat → Int32}
theorem sx_Out_ex (c : Nat) (a_op a_dest a_left a_right a_value a_barred R0 M0 : Nat → Int32) : ∃ f, sx_Out c f a_op a_dest a_left a_right a_value a_barred R0 M0 := by
  obtain ⟨f, hf, hl⟩ := pk_least (fun f => f = c ∨ (f < c ∧ ¬ sx_en a_barred (a_op f) (a_left f) (a_value f) (sx_T a_op a_dest a_left a_right a_value a_barred R0 M0 f).1 = 0)) ⟨c, Or.inl rfl⟩
  have hfc : f ≤ c := by
    rcases hf with h | h
    · omega
    · omega
  refine ⟨f, hfc, fun i hi => ?_, fun h => ?_⟩
  · have := hl i hi
    exact Decidable.byContradiction (fun z => this (Or.inr ⟨by omega, z⟩))
  · rcases hf with h2 | h2
    · omega
    · exact h2.2
theorem sx_dn_m {p i : Nat} (h : sx_dn a_order p i) : sx_dn a_order (p + 1) i := by
  obtain ⟨q, hq, e⟩ := h
  exact ⟨q, by omega, e⟩
theorem sx_dn_s {p i n : Nat} (h : sx_dn a_order (p + 1) i) (e : a_order p = nI n) (hi : i < 2 ^ 31) (hn : n < 2 ^ 31) : sx_dn a_order p i ∨ i = n := by
  obtain ⟨q, hq, e2⟩ := h
  rcases Nat.lt_or_ge q p with h2 | h2
  · exact Or.inl ⟨q, h2, e2⟩
  · obtain rfl : q = p := by omega
    exact Or.inr (sq_im (e2.symm.trans e) hi hn)
theorem sx_nd (S : sx_SC c L a_op a_dest a_left a_right a_order) {p n : Nat} (hp : p < L) (e : a_order p = nI n) : ¬ sx_dn a_order p n := by
  rintro ⟨q, hq, e2⟩
  exact S.2.2.1 q p hq hp (e2.trans e.symm)
theorem sx_later (S : sx_SC c L a_op a_dest a_left a_right a_order) {p n i : Nat} (hp : p < L) (e : a_order p = nI n) (hi : n < i) (hc : i < c) (D : sx_dep a_op a_dest a_left a_right n i) : ¬ sx_dn a_order p i := by
  rintro ⟨q, hq, e2⟩
  obtain ⟨q', h1, h2⟩ := S.2.2.2.2 q n i (by omega) hi hc e2 D
  exact sx_nd S hp e ⟨q', by omega, h2⟩
theorem sx_earlier (S : sx_SC c L a_op a_dest a_left a_right a_order) {p n i : Nat} (hp : p < L) (e : a_order p = nI n) (hi : i < n) (hc : n < c) (D : sx_dep a_op a_dest a_left a_right i n) : sx_dn a_order p i :=
  S.2.2.2.2 p i n hp hi hc e D
theorem sx_Tr (W : ∀ i, i < c → sx_WF (a_op i) (a_dest i) (a_left i) (a_right i)) {a q : Nat} : ∀ b, a ≤ b → b ≤ c → (∀ i, a ≤ i → i < b → ¬ sx_wr a_op a_dest i q) → (sx_T a_op a_dest a_left a_right a_value a_barred R0 M0 b).1 q = (sx_T a_op a_dest a_left a_right a_value a_barred R0 M0 a).1 q := by
  intro b
  induction b with
  | zero =>
    intro h _ _
    obtain rfl : a = 0 := by omega
    rfl
  | succ b ih =>
    intro h hc hn
    rcases Nat.eq_or_lt_of_le h with h2 | h2
    · rw [h2]
    · rw [← ih (by omega) (by omega) (fun i h3 h4 => hn i h3 (by omega))]
      exact sx_rg_n (W b (by omega)) (hn b (by omega) (by omega))
theorem sx_Tm {a : Nat} : ∀ b, a ≤ b → b ≤ c → (∀ i, a ≤ i → i < b → a_op i < 3) → (sx_T a_op a_dest a_left a_right a_value a_barred R0 M0 b).2 = (sx_T a_op a_dest a_left a_right a_value a_barred R0 M0 a).2 := by
  intro b
  induction b with
  | zero =>
    intro h _ _
    obtain rfl : a = 0 := by omega
    rfl
  | succ b ih =>
    intro h hc hn
    rcases Nat.eq_or_lt_of_le h with h2 | h2
    · rw [h2]
    · rw [← ih (by omega) (by omega) (fun i h3 h4 => hn i h3 (by omega))]
      exact sx_mm_n (hn b (by omega) (by omega))
theorem sx_WF_d {op d l r : Int32} (w : sx_WF op d l r) (h : op < 4) : sx_RG d := by
  rcases w with ⟨rfl, hd⟩ | ⟨rfl, hd, _⟩ | ⟨rfl, hd, _⟩ | ⟨rfl, hd, _⟩ | ⟨rfl, _⟩ | ⟨rfl, _⟩
  · exact hd
  · exact hd
  · exact hd
  · exact hd
  · exact absurd h (by decide)
  · exact absurd h (by decide)
/-- the registers that instruction n reads at its place in the schedule -/
theorem sx_read (W : ∀ i, i < c → sx_WF (a_op i) (a_dest i) (a_left i) (a_right i)) (S : sx_SC c L a_op a_dest a_left a_right a_order) {p n : Nat} (hp : p < L) (e : a_order p = nI n) (hc : n < c) {reg : Nat → Int32}
    (R : sx_RI c a_op a_dest a_left a_right a_value a_barred R0 M0 a_order p reg) {q : Nat} (hq : q < 8) (h : ¬ a_op n < 3 ∨ a_left n = nI q ∨ a_right n = nI q) : reg q = (sx_T a_op a_dest a_left a_right a_value a_barred R0 M0 n).1 q := by
  have hd : ∀ i, i < c → sx_wr a_op a_dest i q → a_dest i = nI q := by
    intro i hi w
    obtain ⟨e1, _⟩ := sx_RG_c (sx_WF_d (W i hi) w.1)
    rw [e1, w.2]
  apply R q n (by omega)
  · intro i hi w
    refine sx_earlier S hp e hi hc ?_
    have e1 := hd i (by omega) w
    rcases h with h | h | h
    · exact Or.inr (Or.inl h)
    · exact Or.inr (Or.inr (Or.inr (Or.inl (Or.inl (h.trans e1.symm)))))
    · exact Or.inr (Or.inr (Or.inr (Or.inl (Or.inr (h.trans e1.symm)))))
  · intro i hi hic w
    rcases Nat.eq_or_lt_of_le hi with h2 | h2
    · rw [← h2]; exact sx_nd S hp e
    · refine sx_later S hp e h2 hic ?_
      have e1 := hd i hic w
      rcases h with h | h | h
      · exact Or.inl h
      · exact Or.inr (Or.inr (Or.inr (Or.inr (Or.inl (h.trans e1.symm)))))
      · exact Or.inr (Or.inr (Or.inr (Or.inr (Or.inr (h.trans e1.symm)))))
theorem sx_readM (S : sx_SC c L a_op a_dest a_left a_right a_order) {p n : Nat} (hp : p < L) (e : a_order p = nI n) (hc : n < c) {mem : Nat → Int32}
    (R : sx_MI c a_op a_dest a_left a_right a_value a_barred R0 M0 a_order p mem) (h : ¬ a_op n < 3) : mem = (sx_T a_op a_dest a_left a_right a_value a_barred R0 M0 n).2 := by
  apply R n (by omega)
  · intro i hi _
    exact sx_earlier S hp e hi hc (Or.inr (Or.inl h))
  · intro i hi hic _
    rcases Nat.eq_or_lt_of_le hi with h2 | h2
    · rw [← h2]; exact sx_nd S hp e
    · exact sx_later S hp e h2 hic (Or.inl h)
theorem sx_RI_s (h14 : c ≤ 14) (W : ∀ i, i < c → sx_WF (a_op i) (a_dest i) (a_left i) (a_right i)) (S : sx_SC c L a_op a_dest a_left a_right a_order) {p n : Nat} (hp : p < L) (e : a_order p = nI n) (hc : n < c) {reg reg' : Nat → Int32}
    (R : sx_RI c a_op a_dest a_left a_right a_value a_barred R0 M0 a_order p reg) (h1 : ∀ q, sx_wr a_op a_dest n q → reg' q = (sx_T a_op a_dest a_left a_right a_value a_barred R0 M0 (n + 1)).1 q) (h2 : ∀ q, ¬ sx_wr a_op a_dest n q → reg' q = reg q) :
    sx_RI c a_op a_dest a_left a_right a_value a_barred R0 M0 a_order (p + 1) reg' := by
  intro q k hk ha hb
  by_cases w : sx_wr a_op a_dest n q
  · rw [h1 q w]
    have nk : n < k := by
      rcases Nat.lt_or_ge n k with z | z
      · exact z
      · exact absurd ⟨p, by omega, e⟩ (hb n z hc w)
    refine (sx_Tr W k nk hk ?_).symm
    intro i hi hik wi
    have h5 : sx_dn a_order p i ∨ i = n := sx_dn_s (ha i hik wi) e (by omega) (by omega)
    rcases h5 with h5 | h5
    · refine absurd h5 (sx_later S hp e hi (by omega) (Or.inr (Or.inr (Or.inl ?_))))
      exact sx_RG_inj (sx_WF_d (W n hc) w.1) (sx_WF_d (W i (by omega)) wi.1) (w.2.trans wi.2.symm)
    · omega
  · rw [h2 q w]
    apply R q k hk
    · intro i hi wi
      have h5 : sx_dn a_order p i ∨ i = n := sx_dn_s (ha i hi wi) e (by omega) (by omega)
      rcases h5 with h5 | h5
      · exact h5
      · rw [h5] at wi; exact absurd wi w
    · intro i hi hic wi hd
      exact hb i hi hic wi (sx_dn_m hd)
theorem sx_MI_s1 (h14 : c ≤ 14) {p n : Nat} (e : a_order p = nI n) (hn : n < 28) {mem : Nat → Int32}
    (R : sx_MI c a_op a_dest a_left a_right a_value a_barred R0 M0 a_order p mem) (h : n < c → a_op n < 3) :
    sx_MI c a_op a_dest a_left a_right a_value a_barred R0 M0 a_order (p + 1) mem := by
  intro k hk ha hb
  apply R k hk
  · intro i hi wi
    have h5 : sx_dn a_order p i ∨ i = n := sx_dn_s (ha i hi wi) e (by omega) (by omega)
    rcases h5 with h5 | h5
    · exact h5
    · rw [h5] at wi; exact absurd (h (by omega)) wi
  · intro i hi hic wi hd
    exact hb i hi hic wi (sx_dn_m hd)
theorem sx_MI_s2 (h14 : c ≤ 14) (S : sx_SC c L a_op a_dest a_left a_right a_order) {p n : Nat} (hp : p < L) (e : a_order p = nI n) (hc : n < c) {mem' : Nat → Int32}
    (h : ¬ a_op n < 3) (hm : mem' = (sx_T a_op a_dest a_left a_right a_value a_barred R0 M0 (n + 1)).2) : sx_MI c a_op a_dest a_left a_right a_value a_barred R0 M0 a_order (p + 1) mem' := by
  intro k hk ha hb
  rw [hm]
  have nk : n < k := by
    rcases Nat.lt_or_ge n k with z | z
    · exact z
    · exact absurd ⟨p, by omega, e⟩ (hb n z hc h)
  refine (sx_Tm (c := c) k nk hk ?_).symm
  intro i hi hik
  refine Decidable.byContradiction (fun wi => ?_)
  have h5 : sx_dn a_order p i ∨ i = n := sx_dn_s (ha i hik wi) e (by omega) (by omega)
  rcases h5 with h5 | h5
  · exact absurd h5 (sx_later S hp e hi (by omega) (Or.inl h))
  · omega
/-- an early load's place changes nothing of these -/
theorem sx_RI_e (h14 : c ≤ 14) {p n : Nat} (e : a_order p = nI n) (hn : 14 ≤ n) (hn2 : n < 28) {reg : Nat → Int32}
    (R : sx_RI c a_op a_dest a_left a_right a_value a_barred R0 M0 a_order p reg) : sx_RI c a_op a_dest a_left a_right a_value a_barred R0 M0 a_order (p + 1) reg := by
  intro q k hk ha hb
  apply R q k hk
  · intro i hi wi
    have h5 : sx_dn a_order p i ∨ i = n := sx_dn_s (ha i hi wi) e (by omega) (by omega)
    rcases h5 with h5 | h5
    · exact h5
    · omega
  · intro i hi hic wi hd
    exact hb i hi hic wi (sx_dn_m hd)
theorem sx_EI_s (h14 : c ≤ 14) {p n : Nat} (e : a_order p = nI n) (hn : n < 28)
    (E : sx_EI c a_op a_dest a_left a_right a_value a_barred R0 M0 a_order p) (h : n < c → sx_en a_barred (a_op n) (a_left n) (a_value n) (sx_T a_op a_dest a_left a_right a_value a_barred R0 M0 n).1 = 0) :
    sx_EI c a_op a_dest a_left a_right a_value a_barred R0 M0 a_order (p + 1) := by
  intro i hi hd
  have h5 : sx_dn a_order p i ∨ i = n := sx_dn_s hd e (by omega) (by omega)
  rcases h5 with h5 | h5
  · exact E i hi h5
  · subst h5; exact h hi
theorem sx_RI_b (W : ∀ i, i < c → sx_WF (a_op i) (a_dest i) (a_left i) (a_right i)) : sx_RI c a_op a_dest a_left a_right a_value a_barred R0 M0 a_order 0 R0 := by
  intro q k hk ha _
  refine (sx_Tr (a := 0) W k (by omega) hk ?_).symm
  intro i _ hi wi
  obtain ⟨z, hz, _⟩ := ha i hi wi
  omega
theorem sx_MI_b : sx_MI c a_op a_dest a_left a_right a_value a_barred R0 M0 a_order 0 M0 := by
  intro k hk ha _
  refine (sx_Tm (a := 0) (c := c) k (by omega) hk ?_).symm
  intro i _ hi
  refine Decidable.byContradiction (fun wi => ?_)
  obtain ⟨z, hz, _⟩ := ha i hi wi
  omega
theorem sx_EI_b : sx_EI c a_op a_dest a_left a_right a_value a_barred R0 M0 a_order 0 := by
  intro i _ ⟨z, hz, _⟩
  omega
/-- the schedule is used up: all is done -/
theorem sx_fin (S : sx_SC c L a_op a_dest a_left a_right a_order) {f : Nat} (O : sx_Out c f a_op a_dest a_left a_right a_value a_barred R0 M0) {reg mem : Nat → Int32}
    (R : sx_RI c a_op a_dest a_left a_right a_value a_barred R0 M0 a_order L reg) (M : sx_MI c a_op a_dest a_left a_right a_value a_barred R0 M0 a_order L mem)
    (E : sx_EI c a_op a_dest a_left a_right a_value a_barred R0 M0 a_order L) : f = c ∧ reg = (sx_T a_op a_dest a_left a_right a_value a_barred R0 M0 f).1 ∧ mem = (sx_T a_op a_dest a_left a_right a_value a_barred R0 M0 f).2 := by
  have hf : f = c := by
    rcases Nat.lt_or_ge f c with h | h
    · exact absurd (E f h (S.2.2.2.1 f h)) (O.2.2 h)
    · have := O.1
      omega
  subst hf
  refine ⟨rfl, ?_, ?_⟩
  · funext q
    exact R q f (by omega) (fun i hi _ => S.2.2.2.1 i hi) (fun i h1 h2 => by omega)
  · exact M f (by omega) (fun i hi _ => S.2.2.2.1 i hi) (fun i h1 h2 => by omega)
/-- an instruction that ends the run in the schedule is the first that does -/
theorem sx_end (S : sx_SC c L a_op a_dest a_left a_right a_order) {f : Nat} (O : sx_Out c f a_op a_dest a_left a_right a_value a_barred R0 M0) {p n : Nat} (hp : p < L) (e : a_order p = nI n) (hc : n < c)
    (h : ¬ a_op n < 3) (E : sx_EI c a_op a_dest a_left a_right a_value a_barred R0 M0 a_order p) (hn : ¬ sx_en a_barred (a_op n) (a_left n) (a_value n) (sx_T a_op a_dest a_left a_right a_value a_barred R0 M0 n).1 = 0) : n = f := by
  rcases Nat.lt_trichotomy n f with z | z | z
  · exact absurd (O.2.1 n z) hn
  · exact z
  · exact absurd (E f (by omega) (sx_earlier S hp e z hc (Or.inr (Or.inl h)))) (O.2.2 (by omega))
theorem sx_endR (W : ∀ i, i < c → sx_WF (a_op i) (a_dest i) (a_left i) (a_right i)) (S : sx_SC c L a_op a_dest a_left a_right a_order) {p n : Nat} (hp : p < L) (e : a_order p = nI n) (hc : n < c) {reg : Nat → Int32}
    (R : sx_RI c a_op a_dest a_left a_right a_value a_barred R0 M0 a_order p reg) (h : ¬ a_op n < 3) : reg = (sx_T a_op a_dest a_left a_right a_value a_barred R0 M0 n).1 := by
  funext q
  apply R q n (by omega)
  · intro i hi _
    exact sx_earlier S hp e hi hc (Or.inr (Or.inl h))
  · intro i hi hic _
    rcases Nat.eq_or_lt_of_le hi with h2 | h2
    · rw [← h2]; exact sx_nd S hp e
    · exact sx_later S hp e h2 hic (Or.inl h)
end
end
section
/-! what orderAll builds -/
def sx_rk (n : Nat) : Nat := if n < 14 then 2 * n + 1 else 2 * (n - 14)
theorem sx_rk_lo {n : Nat} (h : n < 14) : sx_rk n = 2 * n + 1 := if_pos h
theorem sx_rk_hi {n : Nat} (h : 14 ≤ n) : sx_rk n = 2 * (n - 14) := if_neg (by omega)
def sx_Src (src : Nat → Int32) : Prop := ∀ j, j < 14 → src j < 0 ∨ ∃ s : Nat, s < 14 ∧ src j = nI s
def sx_B2 (op : Nat → Int32) (c : Nat) (bef : Nat → Int32) : Prop := ∀ n m, n < 28 → m < 28 → bt (bef n) m = true → sx_UJ op c m ∧ sx_rk m < sx_rk n
def sx_B1 (op d l r : Nat → Int32) (j : Nat) (bef : Nat → Int32) : Prop := ∀ j' i, j' < j → i < j' → sx_dep op d l r i j' → bt (bef j') i = true
/-- the first j instructions are entered -/
def sx_OI (c j : Nat) (op d l r used bef src : Nat → Int32) : Prop :=
  (∀ n, n < 28 → (¬ used n = 0 ↔ sx_UJ op j n)) ∧ sx_B1 op d l r j bef ∧ sx_B2 op c bef ∧ sx_Src src
/-- and of instruction j the first i -/
def sx_II (c j i : Nat) (op d l r used bef src : Nat → Int32) : Prop :=
  (∀ n, n < 28 → (¬ used n = 0 ↔ sx_UJ op j n ∨ n = j)) ∧ sx_B1 op d l r j bef ∧ (∀ i', i' < i → sx_dep op d l r i' j → bt (bef j) i' = true) ∧ sx_B2 op c bef ∧ sx_Src src
section
variable {c : Nat} {op d l r used bef src : Nat → Int32}
theorem sx_I0 : ¬ (1 : Int32) = 0 := by decide
theorem sx_II_0 {j : Nat} (hj : j < c) (hc : c ≤ 14) (h : sx_OI c j op d l r used bef src) : sx_II c j 0 op d l r (upd used j 1) bef src := by
  refine ⟨fun n hn => ?_, h.2.1, fun i' hi => by omega, h.2.2.1, h.2.2.2⟩
  by_cases e : n = j
  · rw [e, pk_us]; exact ⟨fun _ => Or.inr rfl, fun _ => sx_I0⟩
  · rw [pk_un e, h.1 n hn]; exact ⟨Or.inl, fun z => z.resolve_right e⟩
theorem sx_II_n {j i : Nat} (h : sx_II c j i op d l r used bef src) (hd : ¬ sx_dep op d l r i j) : sx_II c j (i + 1) op d l r used bef src := by
  refine ⟨h.1, h.2.1, fun i' hi D => ?_, h.2.2.2⟩
  rcases Nat.lt_or_ge i' i with z | z
  · exact h.2.2.1 i' z D
  · obtain rfl : i' = i := by omega
    exact absurd D hd
theorem sx_B1_u {j : Nat} {x : Nat} {y : Int32} (hj : j ≤ x) (h : sx_B1 op d l r j bef) : sx_B1 op d l r j (upd bef x y) := by
  intro j' i hj' hi D
  rw [pk_un (by omega)]
  exact h j' i hj' hi D
theorem sx_B2_u {x : Nat} {y : Int32} (h : sx_B2 op c bef) (hy : ∀ m, m < 28 → bt y m = true → sx_UJ op c m ∧ sx_rk m < sx_rk x) : sx_B2 op c (upd bef x y) := by
  intro n m hn hm hb
  by_cases e : n = x
  · rw [e, pk_us] at hb
    rw [e]
    exact hy m hm hb
  · rw [pk_un e] at hb
    exact h n m hn hm hb
theorem sx_II_y {j i : Nat} (hi : i < j) (hj : j < c) (hc : c ≤ 14) (h : sx_II c j i op d l r used bef src) : sx_II c j (i + 1) op d l r used (upd bef j (bef j ||| ((1 : Int32) <<< (nI i &&& 31)))) src := by
  refine ⟨h.1, sx_B1_u (Nat.le_refl _) h.2.1, fun i' hi' D => ?_, sx_B2_u h.2.2.2.1 ?_, h.2.2.2.2⟩
  · rw [pk_us, sq_set (by omega) (by omega)]
    rcases Nat.lt_or_ge i' i with z | z
    · exact Or.inl (h.2.2.1 i' z D)
    · exact Or.inr (by omega)
  · intro m hm hb
    rw [sq_set (by omega) (by omega)] at hb
    rcases hb with hb | hb
    · exact h.2.2.2.1 j m (by omega) hm hb
    · subst hb
      refine ⟨Or.inl ⟨by omega, by omega⟩, ?_⟩
      rw [sx_rk_lo (by omega), sx_rk_lo (by omega)]
      omega
theorem sx_B1_s {j : Nat} (h : sx_B1 op d l r j bef) (h2 : ∀ i', i' < j → sx_dep op d l r i' j → bt (bef j) i' = true) : sx_B1 op d l r (j + 1) bef := by
  intro j' i hj' hi D
  rcases Nat.lt_or_ge j' j with z | z
  · exact h j' i z hi D
  · obtain rfl : j' = j := by omega
    exact h2 i hi D
theorem sx_UJ_s {j n : Nat} (hj : j < 14) (h3 : ¬ op j = 3) : sx_UJ op (j + 1) n ↔ sx_UJ op j n ∨ n = j := by
  constructor
  · rintro (⟨h1, h2⟩ | ⟨h1, h2, e⟩)
    · rcases Nat.lt_or_ge n j with z | z
      · exact Or.inl (Or.inl ⟨h1, z⟩)
      · exact Or.inr (by omega)
    · rcases Nat.lt_or_ge n (14 + j) with z | z
      · exact Or.inl (Or.inr ⟨h1, z, e⟩)
      · obtain rfl : n = 14 + j := by omega
        rw [Nat.add_sub_cancel_left] at e
        exact absurd e h3
  · rintro ((⟨h1, h2⟩ | ⟨h1, h2, e⟩) | h)
    · exact Or.inl ⟨h1, by omega⟩
    · exact Or.inr ⟨h1, by omega, e⟩
    · exact Or.inl ⟨by omega, by omega⟩
theorem sx_UJ_l {j n : Nat} (hj : j < 14) (h3 : op j = 3) : sx_UJ op (j + 1) n ↔ (sx_UJ op j n ∨ n = j) ∨ n = 14 + j := by
  constructor
  · rintro (⟨h1, h2⟩ | ⟨h1, h2, e⟩)
    · rcases Nat.lt_or_ge n j with z | z
      · exact Or.inl (Or.inl (Or.inl ⟨h1, z⟩))
      · exact Or.inl (Or.inr (by omega))
    · rcases Nat.lt_or_ge n (14 + j) with z | z
      · exact Or.inl (Or.inl (Or.inr ⟨h1, z, e⟩))
      · exact Or.inr (by omega)
  · rintro (((⟨h1, h2⟩ | ⟨h1, h2, e⟩) | h) | h)
    · exact Or.inl ⟨h1, by omega⟩
    · exact Or.inr ⟨h1, by omega, e⟩
    · exact Or.inl ⟨by omega, by omega⟩
    · subst h
      exact Or.inr ⟨by omega, by omega, by rw [Nat.add_sub_cancel_left]; exact h3⟩
theorem sx_OI_n {j : Nat} (hj : j < c) (hc : c ≤ 14) (h : sx_II c j j op d l r used bef src) (h3 : ¬ op j = 3) : sx_OI c (j + 1) op d l r used bef src :=
  ⟨fun n hn => (h.1 n hn).trans (sx_UJ_s (by omega) h3).symm, sx_B1_s h.2.1 h.2.2.1, h.2.2.2⟩
theorem sx_Src_u {j : Nat} {x : Int32} (h : sx_Src src) (hx : x < 0 ∨ ∃ s : Nat, s < 14 ∧ x = nI s) : sx_Src (upd src j x) := by
  intro k hk
  by_cases e : k = j
  · rw [e, pk_us]; exact hx
  · rw [pk_un e]; exact h k hk
/-- load j with its early form entered, which waits for nothing yet -/
theorem sx_OI_l {j : Nat} (hj : j < c) (hc : c ≤ 14) (h : sx_II c j j op d l r used bef src) (h3 : op j = 3) {src' : Nat → Int32} (hs : sx_Src src') :
    sx_OI c (j + 1) op d l r (upd used (14 + j) 1) (upd bef j (bef j ||| ((1 : Int32) <<< (nI (14 + j) &&& 31)))) src' := by
  refine ⟨fun n hn => ?_, sx_B1_s (sx_B1_u (Nat.le_refl _) h.2.1) ?_, sx_B2_u h.2.2.2.1 ?_, hs⟩
  · rw [sx_UJ_l (by omega) h3]
    by_cases e : n = 14 + j
    · rw [e, pk_us]; exact ⟨fun _ => Or.inr rfl, fun _ => sx_I0⟩
    · rw [pk_un e, h.1 n hn]; exact ⟨Or.inl, fun z => z.resolve_right e⟩
  · intro i' hi' D
    rw [pk_us, sq_set (by omega) (by omega)]
    exact Or.inl (h.2.2.1 i' hi' D)
  · intro m hm hb
    rw [sq_set (by omega) (by omega)] at hb
    rcases hb with hb | hb
    · exact h.2.2.2.1 j m (by omega) hm hb
    · subst hb
      refine ⟨Or.inr ⟨by omega, by omega, by rw [Nat.add_sub_cancel_left]; exact h3⟩, ?_⟩
      rw [sx_rk_lo (n := j) (by omega), sx_rk_hi (n := 14 + j) (by omega)]
      omega
/-- and then for operation m -/
theorem sx_OI_m {j m : Nat} (hj : j < c) (hc : c ≤ 14) (hm : m < 28) (h : sx_OI c (j + 1) op d l r used bef src) {src' : Nat → Int32} (hs : sx_Src src') (hu : sx_UJ op c m) (hr : sx_rk m < 2 * j) :
    sx_OI c (j + 1) op d l r used (upd bef (14 + j) ((1 : Int32) <<< (nI m &&& 31))) src' := by
  refine ⟨h.1, sx_B1_u (by omega) h.2.1, sx_B2_u h.2.2.1 ?_, hs⟩
  intro m' hm' hb
  rw [sq_one' (by omega) (by omega)] at hb
  subst hb
  refine ⟨hu, ?_⟩
  rw [sx_rk_hi (n := 14 + j) (by omega)]
  omega
theorem sx_OI_0 (hu : ∀ n, n < 28 → used n = 0) (hb : ∀ n, n < 28 → bef n = 0) (hs : sx_Src src) : sx_OI c 0 op d l r used bef src := by
  refine ⟨fun n hn => ?_, fun j' i hj' => by omega, fun n m hn hm h => ?_, hs⟩
  · rw [hu n hn]
    refine ⟨fun z => absurd rfl z, ?_⟩
    rintro (⟨h1, h2⟩ | ⟨h1, h2, e⟩)
    · omega
    · omega
  · rw [hb n hn, b_0] at h
    exact absurd h (by decide)
end
end
section
/-! the issuing: pure -/
def sx_lat (m : Nat) : Nat := if m < 14 then 1 else 3
theorem sx_lat_3 (m : Nat) : sx_lat m ≤ 3 := by
  unfold sx_lat
  split <;> omega
/-- what m must have been for n to be issued in this cycle -/
def sx_Dn (iss : Nat → Int32) (cy m : Nat) : Prop := ¬ iss m < 0 ∧ ¬ nI cy < iss m + nI (sx_lat m)
def sx_May (used bef iss : Nat → Int32) (cy n : Nat) : Prop := ¬ used n = 0 ∧ iss n < 0 ∧ ∀ m, m < 28 → bt (bef n) m = true → sx_Dn iss cy m
def sx_SI (c cy L : Nat) (op bef iss ord : Nat → Int32) : Prop :=
  (∀ p, p < L → ∃ n t : Nat, n < 28 ∧ t ≤ cy ∧ t + 3 ≤ 3 * L ∧ ord p = nI n ∧ sx_UJ op c n ∧ iss n = nI t) ∧
  (∀ n, n < 28 → iss n = -1 ∨ ∃ p, p < L ∧ ord p = nI n) ∧
  (∀ p q, p < q → q < L → ord p ≠ ord q) ∧
  (∀ p n m, p < L → n < 28 → m < 28 → ord p = nI n → bt (bef n) m = true → ∃ q, q < p ∧ ord q = nI m)
/-- n different numbers below N: n is at most N -/
theorem sx_pigeon : ∀ (N n : Nat) (f : Nat → Nat), (∀ i, i < n → f i < N) → (∀ i j, i < j → j < n → f i ≠ f j) → n ≤ N := by
  intro N
  induction N with
  | zero =>
    intro n f h _
    rcases Nat.eq_zero_or_pos n with z | z
    · omega
    · exact absurd (h 0 z) (by omega)
  | succ N ih =>
    intro n f h hd
    by_cases e : ∃ i, i < n ∧ f i = N
    · obtain ⟨i, hi, ei⟩ := e
      have := ih (n - 1) (fun j => if j < i then f j else f (j + 1)) ?_ ?_
      · omega
      · intro j hj
        split
        · have h1 := h j (by omega)
          have h2 := hd j i (by omega) hi
          omega
        · have h1 := h (j + 1) (by omega)
          have h2 := hd i (j + 1) (by omega) (by omega)
          omega
      · intro j k hjk hk
        split
        · split
          · exact hd j k hjk (by omega)
          · exact hd j (k + 1) (by omega) (by omega)
        · split
          · omega
          · exact hd (j + 1) (k + 1) (by omega) (by omega)
    · have := ih n f (fun i hi => ?_) hd
      · omega
      · have h1 := h i hi
        have h2 : f i ≠ N := fun z => e ⟨i, hi, z⟩
        omega
section
variable {c cy L : Nat} {op d l r used bef iss ord : Nat → Int32}
theorem sx_SI_28 (h : sx_SI c cy L op bef iss ord) : L ≤ 28 := by
  refine sx_pigeon 28 L (fun p => (ord p).toNatClampNeg) ?_ ?_
  · intro p hp
    obtain ⟨n, t, hn, _, _, e, _⟩ := h.1 p hp
    rw [e, nI_clamp (by omega)]
    exact hn
  · intro p q hpq hq z
    obtain ⟨n, t, hn, _, _, e, _⟩ := h.1 p (by omega)
    obtain ⟨n', t', hn', _, _, e', _⟩ := h.1 q hq
    rw [e, e', nI_clamp (by omega), nI_clamp (by omega)] at z
    exact h.2.2.1 p q hpq hq (by rw [e, e', z])
theorem sx_iss {n : Nat} (h : sx_SI c cy L op bef iss ord) (hn : n < 28) : iss n = -1 ∨ ∃ t : Nat, t ≤ cy ∧ t + 3 ≤ 3 * L ∧ iss n = nI t := by
  rcases h.2.1 n hn with z | ⟨p, hp, e⟩
  · exact Or.inl z
  · obtain ⟨n', t, h1, h2, h3, e', _, h4⟩ := h.1 p hp
    obtain rfl : n = n' := sq_im (e.symm.trans e') (by omega) (by omega)
    exact Or.inr ⟨t, h2, h3, h4⟩
/-- one is issued -/
theorem sx_SI_s {n : Nat} (hU : ∀ n, n < 28 → (¬ used n = 0 ↔ sx_UJ op c n)) (h : sx_SI c cy L op bef iss ord) (hn : n < 28) (hcy : cy < 1000) (hL : cy ≤ 3 * L) (hm : sx_May used bef iss cy n) :
    sx_SI c cy (L + 1) op bef (upd iss n (nI cy)) (upd ord L (nI n)) := by
  have h28 := sx_SI_28 h
  have hi : iss n = -1 := by
    rcases sx_iss h hn with z | ⟨t, _, _, e⟩
    · exact z
    · have := hm.2.1
      rw [e] at this
      exact absurd this (nI_pos (by omega))
  have hne : ∀ p n', p < L → ord p = nI n' → n' < 28 → n' ≠ n := by
    intro p n' hp e hn' z
    obtain ⟨m, t, h1, h2, h3, e', _, h4⟩ := h.1 p hp
    have : n' = m := sq_im (e.symm.trans e') (by omega) (by omega)
    rw [← this, z, hi] at h4
    exact sq_ne1 (by omega) h4.symm
  refine ⟨fun p hp => ?_, fun m hm' => ?_, fun p q hpq hq => ?_, fun p n' m hp hn' hm' e hb => ?_⟩
  · rcases Nat.lt_or_ge p L with z | z
    · obtain ⟨m, t, h1, h2, h3, e', hu, h4⟩ := h.1 p z
      refine ⟨m, t, h1, h2, by omega, ?_, hu, ?_⟩
      · rw [pk_un (by omega)]; exact e'
      · rw [pk_un (hne p m z e' h1)]; exact h4
    · obtain rfl : p = L := by omega
      exact ⟨n, cy, hn, Nat.le_refl _, by omega, pk_us, (hU n hn).mp hm.1, pk_us⟩
  · by_cases e : m = n
    · exact Or.inr ⟨L, by omega, by rw [pk_us, e]⟩
    · rw [pk_un e]
      rcases h.2.1 m hm' with z | ⟨p, hp, e'⟩
      · exact Or.inl z
      · exact Or.inr ⟨p, by omega, by rw [pk_un (by omega)]; exact e'⟩
  · rcases Nat.lt_or_ge q L with z | z
    · rw [pk_un (by omega), pk_un (by omega)]
      exact h.2.2.1 p q hpq z
    · obtain rfl : q = L := by omega
      rw [pk_us, pk_un (by omega)]
      intro e
      obtain ⟨m, t, h1, h2, h3, e', _⟩ := h.1 p (by omega)
      exact hne p m (by omega) e' h1 (sq_im (e'.symm.trans e) (by omega) (by omega))
  · rcases Nat.lt_or_ge p L with z | z
    · rw [pk_un (by omega)] at e
      obtain ⟨q, hq, e2⟩ := h.2.2.2 p n' m z hn' hm' e hb
      exact ⟨q, hq, by rw [pk_un (by omega)]; exact e2⟩
    · obtain rfl : p = L := by omega
      rw [pk_us] at e
      obtain rfl : n = n' := sq_im e (by omega) (by omega)
      have h5 := (hm.2.2 m hm' hb).1
      rcases h.2.1 m hm' with z2 | ⟨q, hq, e'⟩
      · rw [z2] at h5; exact absurd sq_m1lt h5
      · exact ⟨q, hq, by rw [pk_un (by omega)]; exact e'⟩
/-- all that is there has been issued -/
def sx_All (c : Nat) (op iss : Nat → Int32) : Prop := ∀ n, n < 28 → sx_UJ op c n → ¬ iss n = -1
/-- while something is left, something may be issued once the last issues are three cycles old -/
theorem sx_live (hU : ∀ n, n < 28 → (¬ used n = 0 ↔ sx_UJ op c n)) (hB : sx_B2 op c bef) (h : sx_SI c cy L op bef iss ord) (hcy : cy < 1000) (hL : 3 * L ≤ cy)
    (hno : ∀ n, n < 28 → ¬ sx_May used bef iss cy n) : sx_All c op iss := by
  have h28 := sx_SI_28 h
  have key : ∀ k n, sx_rk n < k → n < 28 → sx_UJ op c n → ¬ iss n = -1 := by
    intro k
    induction k with
    | zero => intro n hk; omega
    | succ k ih =>
      intro n hk hn hu e
      refine hno n hn ⟨(hU n hn).mpr hu, by rw [e]; exact sq_m1lt, fun m hm hb => ?_⟩
      obtain ⟨um, rm⟩ := hB n m hn hm hb
      have h1 := ih m (by omega) hm um
      rcases sx_iss h hm with z | ⟨t, ht, ht3, e2⟩
      · exact absurd z h1
      · have h3 := sx_lat_3 m
        unfold sx_Dn
        rw [e2, nI_add]
        exact ⟨nI_pos (by omega), nI_nlt (by omega) (by omega)⟩
  intro n hn hu
  exact key (sx_rk n + 1) n (by omega) hn hu
/-- the end: a schedule -/
theorem sx_SI_SC (hc : c ≤ 14) (h : sx_SI c cy L op bef iss ord) (hA : sx_All c op iss) (hB : sx_B1 op d l r c bef) : sx_SC c L op d l r ord := by
  refine ⟨sx_SI_28 h, fun p hp => ?_, h.2.2.1, fun i hi => ?_, fun p i j hp hij hj e D => ?_⟩
  · obtain ⟨n, t, h1, _, _, e, u, _⟩ := h.1 p hp
    exact ⟨n, h1, e, u⟩
  · rcases h.2.1 i (by omega) with z | z
    · exact absurd z (hA i (by omega) (Or.inl ⟨by omega, hi⟩))
    · exact z
  · exact h.2.2.2 p j i hp (by omega) (by omega) e (hB j i hj hij D)
theorem sx_SI_up (h : sx_SI c cy L op bef iss ord) : sx_SI c (cy + 1) L op bef iss ord := by
  refine ⟨fun p hp => ?_, h.2⟩
  obtain ⟨n, t, h1, h2, h3⟩ := h.1 p hp
  exact ⟨n, t, h1, by omega, h3⟩
theorem sx_SI_0 (hi : ∀ n, n < 28 → iss n = -1) : sx_SI c 0 0 op bef iss ord :=
  ⟨fun p hp => by omega, fun n hn => Or.inl (hi n hn), fun p q _ hq => by omega, fun p n m hp => by omega⟩
end
end
section
/-! X's walk of the scheduling -/
section
variable {f_count f_lastEnd f_ready f_length f_victim : Int32} {a_op a_dest a_left a_right a_value a_reg a_mem a_barred a_used a_before a_height a_issuedAt a_order a_source a_early a_sound a_watchedLoad a_watchedAt : Nat → Int32}
theorem sw_fence {post : Int32 → Prop} {i : Nat} (hi : i < 14) (h0 : a_op i < 3 → post 0) (h1 : ¬ a_op i < 3 → post 1) : wpX_fence post (f_count, f_lastEnd, f_ready, f_length, f_victim, a_op, a_dest, a_left, a_right, a_value, a_reg, a_mem, a_barred, a_used, a_before, a_height, a_issuedAt, a_order, a_source, a_early, a_sound, a_watchedLoad, a_watchedAt) (nI i) := by
  refine And.intro (vp_in_nI hi (by omega)) ?_
  rw [nI_clamp (by omega)]
  exact br_c h0 h1
theorem sw_reads {post : Int32 → Prop} {i : Nat} {x : Int32} (hi : i < 14) (h1 : (a_left i = x ∨ a_right i = x) → post 1) (h0 : ¬ (a_left i = x ∨ a_right i = x) → post 0) : wpX_reads post (f_count, f_lastEnd, f_ready, f_length, f_victim, a_op, a_dest, a_left, a_right, a_value, a_reg, a_mem, a_barred, a_used, a_before, a_height, a_issuedAt, a_order, a_source, a_early, a_sound, a_watchedLoad, a_watchedAt) (nI i) x := by
  refine And.intro (vp_in_nI hi (by omega)) ?_
  rw [nI_clamp (by omega)]
  refine br_c (fun h => h1 (Or.inl h)) (fun h => ⟨vp_in_nI hi (by omega), br_c (fun h' => h1 (Or.inr h')) (fun h' => h0 ?_)⟩)
  rintro (z | z)
  · exact h z
  · exact h' z
theorem sw_behind {post : Int32 → Prop} {i j : Nat} (hi : i < 14) (hj : j < 14) (h1 : sx_dep a_op a_dest a_left a_right i j → post 1) (h0 : ¬ sx_dep a_op a_dest a_left a_right i j → post 0) : wpX_behind post (f_count, f_lastEnd, f_ready, f_length, f_victim, a_op, a_dest, a_left, a_right, a_value, a_reg, a_mem, a_barred, a_used, a_before, a_height, a_issuedAt, a_order, a_source, a_early, a_sound, a_watchedLoad, a_watchedAt) (nI i) (nI j) := by
  have ci : (nI i).toNatClampNeg = i := nI_clamp (by omega)
  have cj : (nI j).toNatClampNeg = j := nI_clamp (by omega)
  have vi : vp_in (nI i) 14 := vp_in_nI hi (by omega)
  have vj : vp_in (nI j) 14 := vp_in_nI hj (by omega)
  unfold wpX_behind
  rw [ci, cj]
  refine sw_fence hi (fun a => br_t rfl ?_) (fun a => br_f (by decide) (h1 (Or.inl a)))
  refine sw_fence hj (fun b => br_t rfl ?_) (fun b => br_f (by decide) (h1 (Or.inr (Or.inl b))))
  refine ⟨vi, vj, br_c (fun e => h1 (Or.inr (Or.inr (Or.inl e)))) (fun e => ⟨vi, ?_⟩)⟩
  refine sw_reads hj (fun z => br_f (by decide) (h1 (Or.inr (Or.inr (Or.inr (Or.inl z)))))) (fun z => br_t rfl ⟨vj, ?_⟩)
  refine sw_reads hi (fun y => br_f (by decide) (h1 (Or.inr (Or.inr (Or.inr (Or.inr y)))))) (fun y => br_t rfl (h0 ?_))
  rintro (w | w | w | w | w)
  · exact w a
  · exact w b
  · exact e w
  · exact z w
  · exact y w
theorem sw_wb5 {post : Int32 → Prop} {i : Nat} {x : Int32} (hi : i ≤ 14) (h1 : ∀ w, w < i → post (nI w)) : ∀ (d m : Nat) (x3 : Int32), m + d = i → post x3 → wX_writerBefore_5 post (nI i) x f_count f_lastEnd f_ready f_length f_victim a_op a_dest a_left a_right a_value a_reg a_mem a_barred a_used a_before a_height a_issuedAt a_order a_source a_early a_sound a_watchedLoad a_watchedAt (d + 1) x3 (nI m) := by
  intro d
  induction d with
  | zero =>
    intro m x3 hm h
    exact br_t (nI_le (by omega) (by omega)) h
  | succ d ih =>
    intro m x3 hm h
    refine br_f (nI_ge (by omega) (by omega)) ⟨vp_in_nI (by omega) (by omega), br_c (fun _ => ?_) (fun _ => ?_)⟩
    · exact nm_r (nI_1 m) (ih (m + 1) _ (by omega) (h1 m (by omega)))
    · exact nm_r (nI_1 m) (ih (m + 1) _ (by omega) h)
theorem sw_writerBefore {post : Int32 → Prop} {i : Nat} {x : Int32} (hi : i ≤ 14) (h0 : post (-1)) (h1 : ∀ w, w < i → post (nI w)) : wpX_writerBefore post (f_count, f_lastEnd, f_ready, f_length, f_victim, a_op, a_dest, a_left, a_right, a_value, a_reg, a_mem, a_barred, a_used, a_before, a_height, a_issuedAt, a_order, a_source, a_early, a_sound, a_watchedLoad, a_watchedAt) (nI i) x :=
  ⟨i + 1, sw_wb5 hi h1 i 0 (-1) (by omega) h0⟩
theorem sw_pf83 {post : SX → Prop} {j : Nat} {x3 : Int32} (hj : j < 14) (h0 : x3 < 0 → post (f_count, f_lastEnd, f_ready, f_length, f_victim, a_op, a_dest, a_left, a_right, a_value, a_reg, a_mem, a_barred, a_used, a_before, a_height, a_issuedAt, a_order, a_source, a_early, a_sound, a_watchedLoad, a_watchedAt)) (h1 : ¬ x3 < 0 → post (f_count, f_lastEnd, f_ready, f_length, f_victim, a_op, a_dest, a_left, a_right, a_value, a_reg, a_mem, a_barred, a_used, upd a_before (14 + j) ((1 : Int32) <<< (x3 &&& 31)), a_height, a_issuedAt, a_order, a_source, a_early, a_sound, a_watchedLoad, a_watchedAt)) : wX_putForward_83 post (nI (14 + j)) x3 f_count f_lastEnd f_ready f_length f_victim a_op a_dest a_left a_right a_value a_reg a_mem a_barred a_used a_before a_height a_issuedAt a_order a_source a_early a_sound a_watchedLoad a_watchedAt := by
  refine br_c h0 (fun h => And.intro (vp_in_nI (by omega) (by omega)) ?_)
  rw [nI_clamp (by omega)]
  exact nm_e (h1 h)
theorem sw_putForward {post : SX → Prop} {j : Nat} (hj : j < 14)
    (ha : post (f_count, f_lastEnd, f_ready, f_length, f_victim, a_op, a_dest, a_left, a_right, a_value, a_reg, a_mem, a_barred, upd a_used (14 + j) 1, upd a_before j (a_before j ||| ((1 : Int32) <<< (nI (14 + j) &&& 31))), a_height, a_issuedAt, a_order, upd a_source j (-1), a_early, a_sound, a_watchedLoad, a_watchedAt))
    (hb : ∀ w, w < j → a_op w = 3 → post (f_count, f_lastEnd, f_ready, f_length, f_victim, a_op, a_dest, a_left, a_right, a_value, a_reg, a_mem, a_barred, upd a_used (14 + j) 1, upd (upd a_before j (a_before j ||| ((1 : Int32) <<< (nI (14 + j) &&& 31)))) (14 + j) ((1 : Int32) <<< (nI (14 + w) &&& 31)), a_height, a_issuedAt, a_order, upd (upd a_source j (-1)) j (nI w), a_early, a_sound, a_watchedLoad, a_watchedAt))
    (hc : ∀ w, w < j → post (f_count, f_lastEnd, f_ready, f_length, f_victim, a_op, a_dest, a_left, a_right, a_value, a_reg, a_mem, a_barred, upd a_used (14 + j) 1, upd (upd a_before j (a_before j ||| ((1 : Int32) <<< (nI (14 + j) &&& 31)))) (14 + j) ((1 : Int32) <<< (nI w &&& 31)), a_height, a_issuedAt, a_order, upd a_source j (-1), a_early, a_sound, a_watchedLoad, a_watchedAt)) :
    wpX_putForward post (f_count, f_lastEnd, f_ready, f_length, f_victim, a_op, a_dest, a_left, a_right, a_value, a_reg, a_mem, a_barred, a_used, a_before, a_height, a_issuedAt, a_order, a_source, a_early, a_sound, a_watchedLoad, a_watchedAt) (nI j) := by
  have cj : (nI j).toNatClampNeg = j := nI_clamp (by omega)
  have ck : (nI (14 + j)).toNatClampNeg = 14 + j := nI_clamp (by omega)
  have v14 : vp_in (nI j) 14 := vp_in_nI hj (by omega)
  have v28 : vp_in (nI j) 28 := vp_in_nI (by omega) (by omega)
  have w28 : vp_in (nI (14 + j)) 28 := vp_in_nI (by omega) (by omega)
  unfold wpX_putForward
  rw [cj]
  refine nm_r (e' := nI (14 + j)) (nI_add 14 j) ?_
  rw [ck, sq_vb1]
  refine ⟨w28, nm_e ⟨v28, v28, nm_e ⟨v14, nm_e ⟨v14, ?_⟩⟩⟩⟩
  refine sw_writerBefore (by omega) (br_t sq_m1lt ?_) (fun w hw => ?_)
  · exact sw_pf83 hj (fun _ => ha) (fun z => absurd sq_m1lt z)
  · refine br_f (nI_pos (by omega)) ⟨vp_in_nI (by omega) (by omega), ?_⟩
    rw [nI_clamp (by omega)]
    refine br_c (fun h3 => ⟨v14, nm_e ⟨w28, ?_⟩⟩) (fun _ => ?_)
    · exact nm_r (congrArg (fun z => upd _ (14 + j) ((1 : Int32) <<< (z &&& 31))) (nI_add 14 w)) (hb w hw h3)
    · exact sw_pf83 hj (fun z => absurd z (nI_pos (by omega))) (fun _ => hc w hw)
theorem sw_oa61 {post : SX → Prop} {J : Int32 → Int32 → Int32 → Int32 → Int32 → Int32 → (Nat → Int32) → (Nat → Int32) → (Nat → Int32) → (Nat → Int32) → (Nat → Int32) → (Nat → Int32) → (Nat → Int32) → (Nat → Int32) → (Nat → Int32) → (Nat → Int32) → (Nat → Int32) → (Nat → Int32) → (Nat → Int32) → (Nat → Int32) → (Nat → Int32) → (Nat → Int32) → (Nat → Int32) → (Nat → Int32) → Prop} {c j : Nat} (hj : j < c) (hc : c ≤ 14) {U : Nat → Int32}
    (K : ∀ used bef src : Nat → Int32, sx_OI c (j + 1) a_op a_dest a_left a_right used bef src → J (nI (j + 1)) (nI c) f_lastEnd f_ready f_length f_victim a_op a_dest a_left a_right a_value a_reg a_mem a_barred used bef a_height a_issuedAt a_order src a_early a_sound a_watchedLoad a_watchedAt) :
    ∀ (d i : Nat) (bef : Nat → Int32), i + d = j → sx_II c j i a_op a_dest a_left a_right U bef a_source →
      wX_orderAll_61 post J (nI j) (nI c) f_lastEnd f_ready f_length f_victim (d + 1) (nI i) a_op a_dest a_left a_right a_value a_reg a_mem a_barred U bef a_height a_issuedAt a_order a_source a_early a_sound a_watchedLoad a_watchedAt := by
  have cj : (nI j).toNatClampNeg = j := nI_clamp (by omega)
  intro d
  induction d with
  | zero =>
    intro i bef hi h
    obtain rfl : i = j := by omega
    refine br_t (nI_le (Nat.le_refl _) (by omega)) ⟨vp_in_nI (by omega) (by omega), ?_⟩
    rw [cj]
    refine br_c (fun h3 => ?_) (fun h3 => ?_)
    · have hs := h.2.2.2.2
      have hs1 : sx_Src (upd a_source i (-1)) := sx_Src_u hs (Or.inl sq_m1lt)
      have hO := sx_OI_l hj hc h h3 hs1
      refine sw_putForward (by omega) ?_ (fun w hw w3 => ?_) (fun w hw => ?_)
      · exact nm_r (nI_1 i) (K _ _ _ hO)
      · refine nm_r (nI_1 i) (K _ _ _ (sx_OI_m hj hc (by omega) hO (sx_Src_u hs1 (Or.inr ⟨w, by omega, rfl⟩)) (Or.inr ⟨by omega, by omega, ?_⟩) ?_))
        · rw [Nat.add_sub_cancel_left]; exact w3
        · rw [sx_rk_hi (by omega)]; omega
      · refine nm_r (nI_1 i) (K _ _ _ (sx_OI_m hj hc (by omega) hO hs1 (Or.inl ⟨by omega, by omega⟩) ?_))
        rw [sx_rk_lo (by omega)]; omega
    · exact nm_r (nI_1 i) (K _ _ _ (sx_OI_n hj hc h h3))
  | succ d ih =>
    intro i bef hi h
    refine br_f (nI_ge (by omega) (by omega)) ?_
    refine sw_behind (by omega) (by omega) (fun D => br_f (by decide) ?_) (fun D => br_t rfl ?_)
    · refine ⟨vp_in_nI (by omega) (by omega), vp_in_nI (by omega) (by omega), ?_⟩
      rw [cj]
      exact nm_e (nm_r (nI_1 i) (ih (i + 1) _ (by omega) (sx_II_y (by omega) hj hc h)))
    · exact nm_r (nI_1 i) (ih (i + 1) _ (by omega) (sx_II_n h D))
theorem sw_oa44 {post : SX → Prop} {c : Nat} (hc : c ≤ 14)
    (K : ∀ used bef src : Nat → Int32, sx_OI c c a_op a_dest a_left a_right used bef src → post (nI c, f_lastEnd, f_ready, f_length, f_victim, a_op, a_dest, a_left, a_right, a_value, a_reg, a_mem, a_barred, used, bef, a_height, a_issuedAt, a_order, src, a_early, a_sound, a_watchedLoad, a_watchedAt)) :
    ∀ (d j : Nat) (used bef src : Nat → Int32), j + d = c → sx_OI c j a_op a_dest a_left a_right used bef src →
      wX_orderAll_44 post (d + 1) (nI j) (nI c) f_lastEnd f_ready f_length f_victim a_op a_dest a_left a_right a_value a_reg a_mem a_barred used bef a_height a_issuedAt a_order src a_early a_sound a_watchedLoad a_watchedAt := by
  intro d
  induction d with
  | zero =>
    intro j used bef src hj h
    obtain rfl : j = c := by omega
    exact br_t (nI_le (Nat.le_refl _) (by omega)) (K used bef src h)
  | succ d ih =>
    intro j used bef src hj h
    refine br_f (nI_ge (by omega) (by omega)) ⟨vp_in_nI (by omega) (by omega), ?_⟩
    rw [nI_clamp (by omega), sq_vb1]
    refine nm_e ⟨j + 1, ?_⟩
    exact sw_oa61 (by omega) hc (fun used' bef' src' h' => ih (j + 1) used' bef' src' (by omega) h') j 0 bef (by omega) (sx_II_0 (by omega) hc h)
theorem sw_oa2 {post : SX → Prop} {c : Nat} (hc : c ≤ 14) (hs : sx_Src a_source)
    (K : ∀ used bef hgt iss src : Nat → Int32, sx_OI c c a_op a_dest a_left a_right used bef src → (∀ n, n < 28 → iss n = -1) → post (nI c, f_lastEnd, f_ready, f_length, f_victim, a_op, a_dest, a_left, a_right, a_value, a_reg, a_mem, a_barred, used, bef, hgt, iss, a_order, src, a_early, a_sound, a_watchedLoad, a_watchedAt)) :
    ∀ (d m : Nat) (used bef hgt iss : Nat → Int32), m + d = 28 → (∀ n, n < m → used n = 0) → (∀ n, n < m → bef n = 0) → (∀ n, n < m → iss n = -1) →
      wX_orderAll_2 post (nI c) f_lastEnd f_ready f_length f_victim (d + 1) (nI m) a_op a_dest a_left a_right a_value a_reg a_mem a_barred used bef hgt iss a_order a_source a_early a_sound a_watchedLoad a_watchedAt := by
  intro d
  induction d with
  | zero =>
    intro m used bef hgt iss hm hu hb hi
    obtain rfl : m = 28 := by omega
    exact br_t (nI_le (a := 28) (Nat.le_refl _) (by omega)) ⟨c + 1, sw_oa44 hc (fun used' bef' src' h' => K used' bef' hgt iss src' h' hi) c 0 used bef a_source (by omega) (sx_OI_0 hu hb hs)⟩
  | succ d ih =>
    intro m used bef hgt iss hm hu hb hi
    have v : vp_in (nI m) 28 := vp_in_nI (by omega) (by omega)
    have g : ∀ {f : Nat → Int32} {x : Int32}, (∀ n, n < m → f n = x) → ∀ n, n < m + 1 → upd f m x n = x := by
      intro f x hf n hn
      by_cases e : n = m
      · rw [e, pk_us]
      · rw [pk_un e]; exact hf n (by omega)
    refine br_f (nI_ge (b := 28) (by omega) (by omega)) ⟨v, ?_⟩
    rw [nI_clamp (by omega), sq_vb0]
    exact nm_e ⟨v, nm_e ⟨v, nm_e ⟨v, nm_e (nm_r (nI_1 m) (ih (m + 1) _ _ _ _ (by omega) (g hu) (g hb) (g hi)))⟩⟩⟩
theorem sw_orderAll {post : SX → Prop} {c : Nat} (hc : c ≤ 14) (hs : sx_Src a_source)
    (K : ∀ used bef hgt iss src : Nat → Int32, sx_OI c c a_op a_dest a_left a_right used bef src → (∀ n, n < 28 → iss n = -1) → post (nI c, f_lastEnd, f_ready, f_length, f_victim, a_op, a_dest, a_left, a_right, a_value, a_reg, a_mem, a_barred, used, bef, hgt, iss, a_order, src, a_early, a_sound, a_watchedLoad, a_watchedAt)) :
    wpX_orderAll post (nI c, f_lastEnd, f_ready, f_length, f_victim, a_op, a_dest, a_left, a_right, a_value, a_reg, a_mem, a_barred, a_used, a_before, a_height, a_issuedAt, a_order, a_source, a_early, a_sound, a_watchedLoad, a_watchedAt) :=
  ⟨29, sw_oa2 hc hs K 28 0 a_used a_before a_height a_issuedAt (by omega) (fun n hn => by omega) (fun n hn => by omega) (fun n hn => by omega)⟩
end
end
section
/-! X's walk: heights, issuing, the schedule -/
section
variable {f_count f_lastEnd f_ready f_length f_victim : Int32} {a_op a_dest a_left a_right a_value a_reg a_mem a_barred a_used a_before a_height a_issuedAt a_order a_source a_early a_sound a_watchedLoad a_watchedAt : Nat → Int32}
theorem sw_lat {post : Int32 → Prop} {m : Nat} (hm : m < 2 ^ 31) (h : post (nI (sx_lat m))) : wpX_latency post (f_count, f_lastEnd, f_ready, f_length, f_victim, a_op, a_dest, a_left, a_right, a_value, a_reg, a_mem, a_barred, a_used, a_before, a_height, a_issuedAt, a_order, a_source, a_early, a_sound, a_watchedLoad, a_watchedAt) (nI m) := by
  unfold sx_lat at h
  refine br_c (fun z => ?_) (fun z => ?_)
  · rw [if_pos ((nI_ltI (b := 14) hm (by omega)).mp z)] at h
    exact h
  · rw [if_neg (fun y => z ((nI_ltI (b := 14) hm (by omega)).mpr y))] at h
    exact h
theorem sw_ho4 {post : Int32 → Prop} {x1 : Int32} (h : ∀ r, post r) : ∀ (d m : Nat) (x2 : Int32), m + d = 28 → wX_heightOf_4 post x1 f_count f_lastEnd f_ready f_length f_victim a_op a_dest a_left a_right a_value a_reg a_mem a_barred a_used a_before a_height a_issuedAt a_order a_source a_early a_sound a_watchedLoad a_watchedAt (d + 1) x2 (nI m) := by
  intro d
  induction d with
  | zero =>
    intro m x2 hm
    obtain rfl : m = 28 := by omega
    exact br_t (nI_le (a := 28) (Nat.le_refl _) (by omega)) (br_c (fun _ => h _) (fun _ => h _))
  | succ d ih =>
    intro m x2 hm
    have v : vp_in (nI m) 28 := vp_in_nI (by omega) (by omega)
    have g := fun x => ih (m + 1) x (by omega)
    exact br_f (nI_ge (b := 28) (by omega) (by omega)) ⟨v, br_c (fun _ => nm_r (nI_1 m) (g _)) (fun _ => ⟨v, br_c (fun _ => ⟨v, br_c (fun _ => nm_r (nI_1 m) (g _)) (fun _ => ⟨v, nm_e (nm_r (nI_1 m) (g _))⟩)⟩) (fun _ => nm_r (nI_1 m) (g _))⟩)⟩
theorem sw_heightOf {post : Int32 → Prop} {x1 : Int32} (h : ∀ r, post r) : wpX_heightOf post (f_count, f_lastEnd, f_ready, f_length, f_victim, a_op, a_dest, a_left, a_right, a_value, a_reg, a_mem, a_barred, a_used, a_before, a_height, a_issuedAt, a_order, a_source, a_early, a_sound, a_watchedLoad, a_watchedAt) x1 := ⟨29, sw_ho4 h 28 0 0 (by omega)⟩
theorem sw_me10 {post : SX → Prop} {J : Int32 → (Nat → Int32) → (Nat → Int32) → (Nat → Int32) → (Nat → Int32) → (Nat → Int32) → (Nat → Int32) → (Nat → Int32) → (Nat → Int32) → (Nat → Int32) → (Nat → Int32) → (Nat → Int32) → (Nat → Int32) → (Nat → Int32) → (Nat → Int32) → (Nat → Int32) → (Nat → Int32) → (Nat → Int32) → (Nat → Int32) → Prop} {x1 : Int32} (h : ∀ hgt : Nat → Int32, J (x1 + 1) a_op a_dest a_left a_right a_value a_reg a_mem a_barred a_used a_before hgt a_issuedAt a_order a_source a_early a_sound a_watchedLoad a_watchedAt) : ∀ (d m : Nat) (hgt : Nat → Int32), m + d = 28 → wX_measure_10 post J x1 f_count f_lastEnd f_ready f_length f_victim (d + 1) (nI m) a_op a_dest a_left a_right a_value a_reg a_mem a_barred a_used a_before hgt a_issuedAt a_order a_source a_early a_sound a_watchedLoad a_watchedAt := by
  intro d
  induction d with
  | zero =>
    intro m hgt hm
    obtain rfl : m = 28 := by omega
    exact br_t (nI_le (a := 28) (Nat.le_refl _) (by omega)) (nm_e (h hgt))
  | succ d ih =>
    intro m hgt hm
    have v : vp_in (nI m) 28 := vp_in_nI (by omega) (by omega)
    have g := fun x => ih (m + 1) x (by omega)
    exact br_f (nI_ge (b := 28) (by omega) (by omega)) ⟨v, br_c (fun _ => nm_r (nI_1 m) (g _)) (fun _ => sw_heightOf (fun r => ⟨v, nm_e (nm_r (nI_1 m) (g _))⟩))⟩
theorem sw_me2 {post : SX → Prop} (h : ∀ hgt : Nat → Int32, post (f_count, f_lastEnd, f_ready, f_length, f_victim, a_op, a_dest, a_left, a_right, a_value, a_reg, a_mem, a_barred, a_used, a_before, hgt, a_issuedAt, a_order, a_source, a_early, a_sound, a_watchedLoad, a_watchedAt)) : ∀ (d m : Nat) (hgt : Nat → Int32), m + d = 28 → wX_measure_2 post f_count f_lastEnd f_ready f_length f_victim (d + 1) (nI m) a_op a_dest a_left a_right a_value a_reg a_mem a_barred a_used a_before hgt a_issuedAt a_order a_source a_early a_sound a_watchedLoad a_watchedAt := by
  intro d
  induction d with
  | zero =>
    intro m hgt hm
    obtain rfl : m = 28 := by omega
    exact br_t (nI_le (a := 28) (Nat.le_refl _) (by omega)) (h hgt)
  | succ d ih =>
    intro m hgt hm
    refine br_f (nI_ge (b := 28) (by omega) (by omega)) ⟨29, sw_me10 (fun hgt' => ?_) 28 0 hgt (by omega)⟩
    rw [nI_1 m]
    exact ih (m + 1) hgt' (by omega)
theorem sw_measure {post : SX → Prop} (h : ∀ hgt : Nat → Int32, post (f_count, f_lastEnd, f_ready, f_length, f_victim, a_op, a_dest, a_left, a_right, a_value, a_reg, a_mem, a_barred, a_used, a_before, hgt, a_issuedAt, a_order, a_source, a_early, a_sound, a_watchedLoad, a_watchedAt)) : wpX_measure post (f_count, f_lastEnd, f_ready, f_length, f_victim, a_op, a_dest, a_left, a_right, a_value, a_reg, a_mem, a_barred, a_used, a_before, a_height, a_issuedAt, a_order, a_source, a_early, a_sound, a_watchedLoad, a_watchedAt) := ⟨29, sw_me2 h 28 0 a_height (by omega)⟩
theorem sw_mi25 {post : Int32 → Prop} {n cy : Nat} (hn : n < 28) (h1 : (∀ m, m < 28 → bt (a_before n) m = true → sx_Dn a_issuedAt cy m) → post 1) (h0 : ¬ (∀ m, m < 28 → bt (a_before n) m = true → sx_Dn a_issuedAt cy m) → post 0) :
    ∀ (d m : Nat) (x3 : Int32), m + d = 28 → (x3 = 1 ∧ (∀ m', m' < m → bt (a_before n) m' = true → sx_Dn a_issuedAt cy m')) ∨ (x3 = 0 ∧ ¬ (∀ m, m < 28 → bt (a_before n) m = true → sx_Dn a_issuedAt cy m)) →
      wX_mayIssue_25 post (nI n) (nI cy) f_count f_lastEnd f_ready f_length f_victim a_op a_dest a_left a_right a_value a_reg a_mem a_barred a_used a_before a_height a_issuedAt a_order a_source a_early a_sound a_watchedLoad a_watchedAt (d + 1) x3 (nI m) := by
  intro d
  induction d with
  | zero =>
    intro m x3 hm h
    obtain rfl : m = 28 := by omega
    refine br_t (nI_le (a := 28) (Nat.le_refl _) (by omega)) ?_
    rcases h with ⟨rfl, h⟩ | ⟨rfl, h⟩
    · exact ⟨narrow_b1, h1 h⟩
    · exact ⟨narrow_b0, h0 h⟩
  | succ d ih =>
    intro m x3 hm h
    have v : vp_in (nI m) 28 := vp_in_nI (by omega) (by omega)
    -- the next turn, with m found done or not asked
    have good : (bt (a_before n) m = true → sx_Dn a_issuedAt cy m) → wX_mayIssue_25 post (nI n) (nI cy) f_count f_lastEnd f_ready f_length f_victim a_op a_dest a_left a_right a_value a_reg a_mem a_barred a_used a_before a_height a_issuedAt a_order a_source a_early a_sound a_watchedLoad a_watchedAt (d + 1) x3 (nI (m + 1)) := by
      intro g
      refine ih (m + 1) x3 (by omega) ?_
      rcases h with ⟨e, h⟩ | h
      · refine Or.inl ⟨e, fun m' hm' hb => ?_⟩
        rcases Nat.lt_or_ge m' m with z | z
        · exact h m' z hb
        · obtain rfl : m' = m := by omega
          exact g hb
      · exact Or.inr h
    have bad : bt (a_before n) m = true → ¬ sx_Dn a_issuedAt cy m → wX_mayIssue_25 post (nI n) (nI cy) f_count f_lastEnd f_ready f_length f_victim a_op a_dest a_left a_right a_value a_reg a_mem a_barred a_used a_before a_height a_issuedAt a_order a_source a_early a_sound a_watchedLoad a_watchedAt (d + 1) 0 (nI (m + 1)) := by
      intro hb g
      exact ih (m + 1) 0 (by omega) (Or.inr ⟨rfl, fun z => g (z m (by omega) hb)⟩)
    refine br_f (nI_ge (b := 28) (by omega) (by omega)) ⟨vp_in_nI (by omega) (by omega), ?_⟩
    rw [nI_clamp (n := n) (by omega), nI_clamp (n := m) (by omega), sq_bit (by omega)]
    refine br_c (fun hb => ⟨v, br_c (fun z => ?_) (fun z => ⟨v, ?_⟩)⟩) (fun hb => nm_r (nI_1 m) (good (fun z => absurd z hb)))
    · have g := bad hb (fun y => y.1 z)
      exact br_c (fun _ => nm_r (nI_1 m) g) (fun _ => br_t rfl (nm_r (nI_1 m) g))
    · refine sw_lat (by omega) (br_c (fun y => ?_) (fun y => ?_))
      · have g := bad hb (fun q => q.2 y)
        exact br_c (fun _ => nm_r (nI_1 m) g) (fun _ => br_t rfl (nm_r (nI_1 m) g))
      · have g := good (fun _ => ⟨z, y⟩)
        refine br_c (fun x0 => ?_) (fun x0 => br_f (by decide) ?_)
        · rw [x0] at g; exact nm_r (nI_1 m) g
        · rcases h with ⟨e, _⟩ | ⟨e, _⟩
          · rw [e] at g; exact nm_r (nI_1 m) g
          · exact absurd e x0
theorem sw_mayIssue {post : Int32 → Prop} {n cy : Nat} (hn : n < 28) (h1 : sx_May a_used a_before a_issuedAt cy n → post 1) (h0 : ¬ sx_May a_used a_before a_issuedAt cy n → post 0) : wpX_mayIssue post (f_count, f_lastEnd, f_ready, f_length, f_victim, a_op, a_dest, a_left, a_right, a_value, a_reg, a_mem, a_barred, a_used, a_before, a_height, a_issuedAt, a_order, a_source, a_early, a_sound, a_watchedLoad, a_watchedAt) (nI n) (nI cy) := by
  have v : vp_in (nI n) 28 := vp_in_nI (by omega) (by omega)
  refine And.intro v ?_
  rw [nI_clamp (by omega)]
  refine br_c (fun z => h0 (fun y => y.1 z)) (fun z => ⟨v, br_c (fun y => ⟨29, ?_⟩) (fun y => h0 (fun x => y x.2.1))⟩)
  exact sw_mi25 hn (fun g => h1 ⟨z, y, g⟩) (fun g => h0 (fun x => g x.2.2)) 28 0 1 (by omega) (Or.inl ⟨rfl, fun m' hm' => by omega⟩)
theorem sw_io4 {post : SX → Prop} {cy L : Nat} (hL : L ≤ 28)
    (h1 : ∀ n, n < 28 → sx_May a_used a_before a_issuedAt cy n → L < 28 ∧ post (f_count, f_lastEnd, f_ready, nI (L + 1), f_victim, a_op, a_dest, a_left, a_right, a_value, a_reg, a_mem, a_barred, a_used, a_before, a_height, upd a_issuedAt n (nI cy), upd a_order L (nI n), a_source, a_early, a_sound, a_watchedLoad, a_watchedAt))
    (h0 : (∀ n, n < 28 → ¬ sx_May a_used a_before a_issuedAt cy n) → post (f_count, f_lastEnd, f_ready, nI L, f_victim, a_op, a_dest, a_left, a_right, a_value, a_reg, a_mem, a_barred, a_used, a_before, a_height, a_issuedAt, a_order, a_source, a_early, a_sound, a_watchedLoad, a_watchedAt)) :
    ∀ (d m : Nat) (x2 : Int32), m + d = 28 → (x2 = -1 ∧ (∀ n, n < m → ¬ sx_May a_used a_before a_issuedAt cy n)) ∨ (∃ n, n < 28 ∧ x2 = nI n ∧ sx_May a_used a_before a_issuedAt cy n) →
      wX_issueOne_4 post (nI cy) f_count f_lastEnd f_ready (nI L) f_victim a_op a_dest a_left a_right a_value a_reg a_mem a_barred a_used a_before a_height a_issuedAt a_order a_source a_early a_sound a_watchedLoad a_watchedAt (d + 1) x2 (nI m) := by
  intro d
  induction d with
  | zero =>
    intro m x2 hm h
    obtain rfl : m = 28 := by omega
    refine br_t (nI_le (a := 28) (Nat.le_refl _) (by omega)) ?_
    rcases h with ⟨rfl, h⟩ | ⟨n, hn, rfl, h⟩
    · exact br_t sq_m1lt (h0 h)
    · obtain ⟨hl, g⟩ := h1 n hn h
      refine br_f (nI_pos (by omega)) ⟨vp_in_nI hn (by omega), ?_⟩
      rw [nI_clamp (n := n) (by omega), nI_clamp (n := L) (by omega)]
      exact nm_e ⟨vp_in_nI hl (by omega), nm_e (nm_r (nI_1 L) g)⟩
  | succ d ih =>
    intro m x2 hm h
    have v : vp_in (nI m) 28 := vp_in_nI (by omega) (by omega)
    refine br_f (nI_ge (b := 28) (by omega) (by omega)) ?_
    refine sw_mayIssue (by omega) (fun g => br_f (by decide) ?_) (fun g => br_t rfl (nm_r (nI_1 m) (ih (m + 1) _ (by omega) ?_)))
    · have gm := ih (m + 1) (nI m) (by omega) (Or.inr ⟨m, by omega, rfl, g⟩)
      rcases h with ⟨rfl, h⟩ | ⟨n, hn, rfl, h⟩
      · exact br_t sq_m1lt (nm_r (nI_1 m) gm)
      · have gn := ih (m + 1) (nI n) (by omega) (Or.inr ⟨n, hn, rfl, h⟩)
        exact br_f (nI_pos (by omega)) ⟨v, vp_in_nI hn (by omega), br_c (fun _ => nm_r (nI_1 m) gn) (fun _ => nm_r (nI_1 m) gm)⟩
    · rcases h with ⟨e, h⟩ | h
      · refine Or.inl ⟨e, fun n hn => ?_⟩
        rcases Nat.lt_or_ge n m with z | z
        · exact h n z
        · obtain rfl : n = m := by omega
          exact g
      · exact Or.inr h
theorem sw_issueOne {post : SX → Prop} {cy L : Nat} (hL : L ≤ 28)
    (h1 : ∀ n, n < 28 → sx_May a_used a_before a_issuedAt cy n → L < 28 ∧ post (f_count, f_lastEnd, f_ready, nI (L + 1), f_victim, a_op, a_dest, a_left, a_right, a_value, a_reg, a_mem, a_barred, a_used, a_before, a_height, upd a_issuedAt n (nI cy), upd a_order L (nI n), a_source, a_early, a_sound, a_watchedLoad, a_watchedAt))
    (h0 : (∀ n, n < 28 → ¬ sx_May a_used a_before a_issuedAt cy n) → post (f_count, f_lastEnd, f_ready, nI L, f_victim, a_op, a_dest, a_left, a_right, a_value, a_reg, a_mem, a_barred, a_used, a_before, a_height, a_issuedAt, a_order, a_source, a_early, a_sound, a_watchedLoad, a_watchedAt)) : wpX_issueOne post (f_count, f_lastEnd, f_ready, nI L, f_victim, a_op, a_dest, a_left, a_right, a_value, a_reg, a_mem, a_barred, a_used, a_before, a_height, a_issuedAt, a_order, a_source, a_early, a_sound, a_watchedLoad, a_watchedAt) (nI cy) :=
  ⟨29, sw_io4 hL h1 h0 28 0 (-1) (by omega) (Or.inl ⟨rfl, fun n hn => by omega⟩)⟩
/-- one issue, by what holds in cycle cy -/
theorem sw_issue {post : SX → Prop} {c cy L : Nat} (hU : ∀ n, n < 28 → (¬ a_used n = 0 ↔ sx_UJ a_op c n)) (hB : sx_B2 a_op c a_before) (hcy : cy < 1000)
    (h : sx_SI c cy L a_op a_before a_issuedAt a_order) (hA : sx_All c a_op a_issuedAt ∨ cy ≤ 3 * L)
    (K : ∀ (L' : Nat) (iss ord : Nat → Int32), sx_SI c cy L' a_op a_before iss ord → sx_All c a_op iss ∨ cy + 1 ≤ 3 * L' → post (f_count, f_lastEnd, f_ready, nI L', f_victim, a_op, a_dest, a_left, a_right, a_value, a_reg, a_mem, a_barred, a_used, a_before, a_height, iss, ord, a_source, a_early, a_sound, a_watchedLoad, a_watchedAt)) :
    wpX_issueOne post (f_count, f_lastEnd, f_ready, nI L, f_victim, a_op, a_dest, a_left, a_right, a_value, a_reg, a_mem, a_barred, a_used, a_before, a_height, a_issuedAt, a_order, a_source, a_early, a_sound, a_watchedLoad, a_watchedAt) (nI cy) := by
  have h28 := sx_SI_28 h
  refine sw_issueOne h28 (fun n hn hm => ?_) (fun hno => ?_)
  · have hl : cy ≤ 3 * L := by
      rcases hA with hA | hA
      · have h1 := hA n hn ((hU n hn).mp hm.1)
        rcases sx_iss h hn with z | ⟨t, _, _, e⟩
        · exact absurd z h1
        · have h2 := hm.2.1
          rw [e] at h2
          exact absurd h2 (nI_pos (by omega))
      · exact hA
    have hs := sx_SI_s hU h hn hcy hl hm
    have hs28 := sx_SI_28 hs
    exact ⟨by omega, K (L + 1) _ _ hs (Or.inr (by omega))⟩
  · refine K L a_issuedAt a_order h ?_
    rcases Nat.lt_or_ge cy (3 * L) with z | z
    · exact Or.inr (by omega)
    · exact Or.inl (sx_live hU hB h hcy z hno)
theorem sw_sc23 {post : SX → Prop} {c : Nat} (hc : c ≤ 14) (hU : ∀ n, n < 28 → (¬ a_used n = 0 ↔ sx_UJ a_op c n)) (hB : sx_B2 a_op c a_before) (hB1 : sx_B1 a_op a_dest a_left a_right c a_before)
    (K : ∀ (L : Nat) (iss ord : Nat → Int32), sx_SC c L a_op a_dest a_left a_right ord → post (f_count, f_lastEnd, 1, nI L, f_victim, a_op, a_dest, a_left, a_right, a_value, a_reg, a_mem, a_barred, a_used, a_before, a_height, iss, ord, a_source, a_early, a_sound, a_watchedLoad, a_watchedAt)) :
    ∀ (d cy L : Nat) (iss ord : Nat → Int32), cy + d = 100 → sx_SI c cy L a_op a_before iss ord → sx_All c a_op iss ∨ cy ≤ 3 * L →
      wX_schedule_23 post (d + 1) (nI cy) f_count f_lastEnd f_ready (nI L) f_victim a_op a_dest a_left a_right a_value a_reg a_mem a_barred a_used a_before a_height iss ord a_source a_early a_sound a_watchedLoad a_watchedAt := by
  intro d
  induction d with
  | zero =>
    intro cy L iss ord hcy h hA
    obtain rfl : cy = 100 := by omega
    refine br_t (nI_le (a := 100) (Nat.le_refl _) (by omega)) (K L iss ord (sx_SI_SC hc h ?_ hB1))
    have h28 := sx_SI_28 h
    rcases hA with hA | hA
    · exact hA
    · omega
  | succ d ih =>
    intro cy L iss ord hcy h hA
    refine br_f (nI_ge (b := 100) (by omega) (by omega)) ?_
    refine sw_issue hU hB (by omega) h hA (fun L1 iss1 ord1 h1 hA1 => ?_)
    refine sw_issue hU hB (by omega) h1 (hA1.imp id (fun z => by omega)) (fun L2 iss2 ord2 h2 hA2 => ?_)
    exact nm_r (nI_1 cy) (ih (cy + 1) L2 iss2 ord2 (by omega) (sx_SI_up h2) hA2)
theorem sw_schedule {post : SX → Prop} {c L : Nat} (hc : c ≤ 14) (hs : sx_Src a_source) (hr : ¬ f_ready = 0 → sx_SC c L a_op a_dest a_left a_right a_order)
    (K : ∀ (ready : Int32) (L' : Nat) (used bef hgt iss ord src : Nat → Int32), sx_SC c L' a_op a_dest a_left a_right ord → sx_Src src →
      post (nI c, f_lastEnd, ready, nI L', f_victim, a_op, a_dest, a_left, a_right, a_value, a_reg, a_mem, a_barred, used, bef, hgt, iss, ord, src, a_early, a_sound, a_watchedLoad, a_watchedAt)) :
    wpX_schedule post (nI c, f_lastEnd, f_ready, nI L, f_victim, a_op, a_dest, a_left, a_right, a_value, a_reg, a_mem, a_barred, a_used, a_before, a_height, a_issuedAt, a_order, a_source, a_early, a_sound, a_watchedLoad, a_watchedAt) := by
  unfold wpX_schedule
  refine br_c (fun _ => ?_) (fun z => K f_ready L a_used a_before a_height a_issuedAt a_order a_source (hr z) hs)
  refine sw_orderAll hc hs (fun used bef hgt iss src hO hi => ?_)
  refine sw_measure (fun hgt' => ⟨101, ?_⟩)
  exact sw_sc23 hc hO.1 hO.2.2.1 hO.2.1 (fun L' iss' ord' hS => K 1 L' used bef hgt' iss' ord' src hS hO.2.2.2) 100 0 0 iss a_order (by omega) (sx_SI_0 hi) (Or.inr (by omega))
end
end
section
/-! X's walk: one operation -/
section
variable {f_count f_lastEnd f_ready f_length f_victim : Int32} {a_op a_dest a_left a_right a_value a_reg a_mem a_barred a_used a_before a_height a_issuedAt a_order a_source a_early a_sound a_watchedLoad a_watchedAt : Nat → Int32}
theorem sw_badAddress {post : Int32 → Prop} {x : Int32} (h0 : ¬ x < 0 → x ≤ 15 → post 0) (h1 : (x < 0 ∨ ¬ x ≤ 15) → post 1) : wpX_badAddress post (f_count, f_lastEnd, f_ready, f_length, f_victim, a_op, a_dest, a_left, a_right, a_value, a_reg, a_mem, a_barred, a_used, a_before, a_height, a_issuedAt, a_order, a_source, a_early, a_sound, a_watchedLoad, a_watchedAt) x :=
  br_c (fun a => h1 (Or.inl a)) (fun a => br_c (fun b => h0 a b) (fun b => h1 (Or.inr b)))
theorem sw_in16 {x : Int32} (h0 : ¬ x < 0) (h1 : x ≤ 15) : vp_in x 16 := by
  obtain ⟨j, hj, rfl⟩ := nI_of2 (M := 15) (n := 15) (by decide) h0 h1
  exact vp_in_nI (by omega) (by omega)
theorem sw_faults {post : Int32 → Prop} {x : Int32} (h1 : sx_fa a_barred x = true → post 1) (h0 : sx_fa a_barred x = false → post 0) : wpX_faults post (f_count, f_lastEnd, f_ready, f_length, f_victim, a_op, a_dest, a_left, a_right, a_value, a_reg, a_mem, a_barred, a_used, a_before, a_height, a_issuedAt, a_order, a_source, a_early, a_sound, a_watchedLoad, a_watchedAt) x := by
  have hT : ¬ (¬ x < 0 ∧ x ≤ 15 ∧ a_barred x.toNatClampNeg = 0) → sx_fa a_barred x = true := by
    intro z
    cases e : sx_fa a_barred x with
    | true => rfl
    | false => exact absurd (sx_fa_f.mp e) z
  unfold wpX_faults
  refine sw_badAddress (fun a b => br_t rfl ⟨sw_in16 a b, br_c (fun e => h0 (sx_fa_f.mpr ⟨a, b, e⟩)) (fun e => h1 (hT (fun z => e z.2.2)))⟩) (fun a => br_f (by decide) (h1 (hT (fun z => ?_))))
  rcases a with a | a
  · exact z.1 a
  · exact a z.2.1
theorem sw_watch {post : SX → Prop} {w : Nat} {y x : Int32} (hw : w < 4) (h : ∀ w' : Nat, w' < 4 → post (f_count, f_lastEnd, f_ready, f_length, nI w', a_op, a_dest, a_left, a_right, a_value, a_reg, a_mem, a_barred, a_used, a_before, a_height, a_issuedAt, a_order, a_source, a_early, a_sound, upd a_watchedLoad w y, upd a_watchedAt w x)) : wpX_watch post (f_count, f_lastEnd, f_ready, f_length, nI w, a_op, a_dest, a_left, a_right, a_value, a_reg, a_mem, a_barred, a_used, a_before, a_height, a_issuedAt, a_order, a_source, a_early, a_sound, a_watchedLoad, a_watchedAt) y x := by
  have v : vp_in (nI w) 4 := vp_in_nI hw (by omega)
  refine And.intro v ?_
  rw [nI_clamp (by omega), nI_1 w]
  exact nm_e ⟨v, nm_e (br_c (fun _ => h 0 (by omega)) (fun e => nm_e (h (w + 1) (by
    rcases Nat.lt_or_ge (w + 1) 4 with z | z
    · exact z
    · obtain rfl : w = 3 := by omega
      exact absurd rfl e))))⟩
theorem sw_st2 {post : SX → Prop} {x : Int32}
    (h : ∀ wl : Nat → Int32, (∀ w, w < 4 → (a_watchedAt w = x → wl w = -1) ∧ (¬ a_watchedAt w = x → wl w = a_watchedLoad w)) → post (f_count, f_lastEnd, f_ready, f_length, f_victim, a_op, a_dest, a_left, a_right, a_value, a_reg, a_mem, a_barred, a_used, a_before, a_height, a_issuedAt, a_order, a_source, a_early, a_sound, wl, a_watchedAt)) :
    ∀ (d m : Nat) (wl : Nat → Int32), m + d = 4 → (∀ w, w < m → (a_watchedAt w = x → wl w = -1) ∧ (¬ a_watchedAt w = x → wl w = a_watchedLoad w)) → (∀ w, m ≤ w → wl w = a_watchedLoad w) →
      wX_stored_2 post x f_count f_lastEnd f_ready f_length f_victim (d + 1) (nI m) a_op a_dest a_left a_right a_value a_reg a_mem a_barred a_used a_before a_height a_issuedAt a_order a_source a_early a_sound wl a_watchedAt := by
  intro d
  induction d with
  | zero =>
    intro m wl hm h1 h2
    obtain rfl : m = 4 := by omega
    exact br_t (nI_le (a := 4) (Nat.le_refl _) (by omega)) (h wl h1)
  | succ d ih =>
    intro m wl hm h1 h2
    have v : vp_in (nI m) 4 := vp_in_nI (by omega) (by omega)
    refine br_f (nI_ge (b := 4) (by omega) (by omega)) ⟨v, ?_⟩
    rw [nI_clamp (by omega)]
    refine br_c (fun e => ⟨v, nm_e (nm_r (nI_1 m) (ih (m + 1) _ (by omega) (fun w hw => ?_) (fun w hw => ?_)))⟩) (fun e => nm_r (nI_1 m) (ih (m + 1) _ (by omega) (fun w hw => ?_) (fun w hw => h2 w (by omega))))
    · by_cases z : w = m
      · rw [z, pk_us]; exact ⟨fun _ => rfl, fun y => absurd e y⟩
      · rw [pk_un z]; exact h1 w (by omega)
    · rw [pk_un (by omega)]; exact h2 w (by omega)
    · by_cases z : w = m
      · rw [z]; exact ⟨fun y => absurd y e, fun _ => h2 m (Nat.le_refl _)⟩
      · exact h1 w (by omega)
theorem sw_stored {post : SX → Prop} {x : Int32}
    (h : ∀ wl : Nat → Int32, (∀ w, w < 4 → (a_watchedAt w = x → wl w = -1) ∧ (¬ a_watchedAt w = x → wl w = a_watchedLoad w)) → post (f_count, f_lastEnd, f_ready, f_length, f_victim, a_op, a_dest, a_left, a_right, a_value, a_reg, a_mem, a_barred, a_used, a_before, a_height, a_issuedAt, a_order, a_source, a_early, a_sound, wl, a_watchedAt)) : wpX_stored post (f_count, f_lastEnd, f_ready, f_length, f_victim, a_op, a_dest, a_left, a_right, a_value, a_reg, a_mem, a_barred, a_used, a_before, a_height, a_issuedAt, a_order, a_source, a_early, a_sound, a_watchedLoad, a_watchedAt) x :=
  ⟨5, sw_st2 h 4 0 a_watchedLoad (by omega) (fun w hw => by omega) (fun w _ => rfl)⟩
theorem sw_sw5 {post : Int32 → Prop} {x1 x2 : Int32} (h0 : post 0) (h1 : (∃ w, w < 4 ∧ a_watchedLoad w = x1 ∧ a_watchedAt w = x2) → post 1) :
    ∀ (d m : Nat) (x3 : Int32), m + d = 4 → (x3 = 0 ∨ (x3 = 1 ∧ ∃ w, w < 4 ∧ a_watchedLoad w = x1 ∧ a_watchedAt w = x2)) → wX_stillWatched_5 post x1 x2 f_count f_lastEnd f_ready f_length f_victim a_op a_dest a_left a_right a_value a_reg a_mem a_barred a_used a_before a_height a_issuedAt a_order a_source a_early a_sound a_watchedLoad a_watchedAt (d + 1) x3 (nI m) := by
  intro d
  induction d with
  | zero =>
    intro m x3 hm h
    obtain rfl : m = 4 := by omega
    refine br_t (nI_le (a := 4) (Nat.le_refl _) (by omega)) ?_
    rcases h with rfl | ⟨rfl, h⟩
    · exact ⟨narrow_b0, h0⟩
    · exact ⟨narrow_b1, h1 h⟩
  | succ d ih =>
    intro m x3 hm h
    have v : vp_in (nI m) 4 := vp_in_nI (by omega) (by omega)
    have g := ih (m + 1) x3 (by omega) h
    refine br_f (nI_ge (b := 4) (by omega) (by omega)) ⟨v, ?_⟩
    rw [nI_clamp (by omega)]
    exact br_c (fun a => ⟨v, br_c (fun b => nm_r (nI_1 m) (ih (m + 1) 1 (by omega) (Or.inr ⟨rfl, m, by omega, a, b⟩))) (fun _ => nm_r (nI_1 m) g)⟩) (fun _ => nm_r (nI_1 m) g)
theorem sw_still {post : Int32 → Prop} {x1 x2 : Int32} (h0 : post 0) (h1 : (∃ w, w < 4 ∧ a_watchedLoad w = x1 ∧ a_watchedAt w = x2) → post 1) : wpX_stillWatched post (f_count, f_lastEnd, f_ready, f_length, f_victim, a_op, a_dest, a_left, a_right, a_value, a_reg, a_mem, a_barred, a_used, a_before, a_height, a_issuedAt, a_order, a_source, a_early, a_sound, a_watchedLoad, a_watchedAt) x1 x2 :=
  ⟨5, sw_sw5 h0 h1 4 0 0 (by omega) (Or.inl rfl)⟩
theorem sw_le52 {post : SX → Prop} {i w : Nat} {z0 : Int32} (hi : i < 14) (hw : w < 4) (h0 : post (f_count, f_lastEnd, f_ready, f_length, nI w, a_op, a_dest, a_left, a_right, a_value, a_reg, a_mem, a_barred, a_used, a_before, a_height, a_issuedAt, a_order, a_source, a_early, a_sound, a_watchedLoad, a_watchedAt))
    (h1 : ∀ (w' : Nat) (x : Int32) (snd : Nat → Int32), w' < 4 → sx_fa a_barred x = false → post (f_count, f_lastEnd, f_ready, f_length, nI w', a_op, a_dest, a_left, a_right, a_value, a_reg, a_mem, a_barred, a_used, a_before, a_height, a_issuedAt, a_order, a_source, upd a_early i (a_mem x.toNatClampNeg), snd, upd a_watchedLoad w (nI i), upd a_watchedAt w x)) :
    wX_loadEarly_52 post (nI i) z0 f_count f_lastEnd f_ready f_length (nI w) a_op a_dest a_left a_right a_value a_reg a_mem a_barred a_used a_before a_height a_issuedAt a_order a_source a_early a_sound a_watchedLoad a_watchedAt := by
  have v : vp_in (nI i) 14 := vp_in_nI hi (by omega)
  refine And.intro v ?_
  rw [nI_clamp (by omega)]
  refine nm_e (sw_faults (fun _ => br_f (by decide) h0) (fun hf => br_t rfl ⟨v, nm_e ⟨sx_fa_in hf, v, nm_e ?_⟩⟩))
  exact sw_watch hw (fun w' hw' => h1 w' _ _ hw' hf)
theorem sw_le28 {post : SX → Prop} {i w : Nat} {x2 : Int32} (hi : i < 14) (hw : w < 4) (hl : sx_RG (a_left i)) (hx : x2 < 0 ∨ ∃ s : Nat, s < 14 ∧ x2 = nI s) (h0 : post (f_count, f_lastEnd, f_ready, f_length, nI w, a_op, a_dest, a_left, a_right, a_value, a_reg, a_mem, a_barred, a_used, a_before, a_height, a_issuedAt, a_order, a_source, a_early, a_sound, a_watchedLoad, a_watchedAt))
    (h1 : ∀ (w' : Nat) (x : Int32) (snd : Nat → Int32), w' < 4 → sx_fa a_barred x = false → post (f_count, f_lastEnd, f_ready, f_length, nI w', a_op, a_dest, a_left, a_right, a_value, a_reg, a_mem, a_barred, a_used, a_before, a_height, a_issuedAt, a_order, a_source, upd a_early i (a_mem x.toNatClampNeg), snd, upd a_watchedLoad w (nI i), upd a_watchedAt w x)) :
    wX_loadEarly_28 post (nI i) x2 f_count f_lastEnd f_ready f_length (nI w) a_op a_dest a_left a_right a_value a_reg a_mem a_barred a_used a_before a_height a_issuedAt a_order a_source a_early a_sound a_watchedLoad a_watchedAt := by
  have v : vp_in (nI i) 14 := vp_in_nI hi (by omega)
  unfold wX_loadEarly_28
  rw [nI_clamp (by omega)]
  refine br_c (fun _ => ⟨v, sx_RG_in hl, sw_le52 hi hw h0 h1⟩) (fun z => ⟨?_, sw_le52 hi hw h0 h1⟩)
  rcases hx with hx | ⟨s, hs, rfl⟩
  · exact absurd hx z
  · exact vp_in_nI hs (by omega)
theorem sw_loadEarly {post : SX → Prop} {i w : Nat} (hi : i < 14) (hw : w < 4) (hl : sx_RG (a_left i)) (hs : sx_Src a_source)
    (h0 : ∀ snd : Nat → Int32, post (f_count, f_lastEnd, f_ready, f_length, nI w, a_op, a_dest, a_left, a_right, a_value, a_reg, a_mem, a_barred, a_used, a_before, a_height, a_issuedAt, a_order, a_source, a_early, snd, a_watchedLoad, a_watchedAt))
    (h1 : ∀ (w' : Nat) (x : Int32) (snd : Nat → Int32), w' < 4 → sx_fa a_barred x = false → post (f_count, f_lastEnd, f_ready, f_length, nI w', a_op, a_dest, a_left, a_right, a_value, a_reg, a_mem, a_barred, a_used, a_before, a_height, a_issuedAt, a_order, a_source, upd a_early i (a_mem x.toNatClampNeg), snd, upd a_watchedLoad w (nI i), upd a_watchedAt w x)) :
    wpX_loadEarly post (f_count, f_lastEnd, f_ready, f_length, nI w, a_op, a_dest, a_left, a_right, a_value, a_reg, a_mem, a_barred, a_used, a_before, a_height, a_issuedAt, a_order, a_source, a_early, a_sound, a_watchedLoad, a_watchedAt) (nI i) := by
  have v : vp_in (nI i) 14 := vp_in_nI hi (by omega)
  refine And.intro v ?_
  rw [nI_clamp (by omega)]
  have hx := hs i hi
  refine nm_e ⟨v, nm_e (br_c (fun _ => sw_le28 hi hw hl hx (h0 _) h1) (fun z => ⟨?_, br_c (fun _ => h0 _) (fun _ => sw_le28 hi hw hl hx (h0 _) h1)⟩))⟩
  rcases hx with hx | ⟨s, hs, e⟩
  · exact absurd hx z
  · rw [e]; exact vp_in_nI hs (by omega)
theorem sw_ck42 {post : Int32 → SX → Prop} {n : Nat} {x2 z0 : Int32} (hn : n < 14) (hd : sx_RG (a_dest n)) (hz : ¬ z0 = 0 → a_early n = a_mem x2.toNatClampNeg ∧ sx_fa a_barred x2 = false)
    (h0 : sx_fa a_barred x2 = true → post 0 (f_count, f_lastEnd, f_ready, f_length, f_victim, a_op, a_dest, a_left, a_right, a_value, a_reg, a_mem, a_barred, a_used, a_before, a_height, a_issuedAt, a_order, a_source, a_early, a_sound, a_watchedLoad, a_watchedAt)) (h1 : sx_fa a_barred x2 = false → post 1 (f_count, f_lastEnd, f_ready, f_length, f_victim, a_op, a_dest, a_left, a_right, a_value, upd a_reg (a_dest n).toNatClampNeg (a_mem x2.toNatClampNeg), a_mem, a_barred, a_used, a_before, a_height, a_issuedAt, a_order, a_source, a_early, a_sound, a_watchedLoad, a_watchedAt)) : wX_check_42 post (nI n) x2 z0 f_count f_lastEnd f_ready f_length f_victim a_op a_dest a_left a_right a_value a_reg a_mem a_barred a_used a_before a_height a_issuedAt a_order a_source a_early a_sound a_watchedLoad a_watchedAt := by
  have v : vp_in (nI n) 14 := vp_in_nI hn (by omega)
  unfold wX_check_42
  rw [nI_clamp (by omega)]
  refine br_c (fun _ => sw_faults (fun f => br_f (by decide) (h0 f)) (fun f => br_t rfl ⟨v, sx_fa_in f, sx_RG_in hd, nm_e (h1 f)⟩)) (fun z => ⟨v, v, sx_RG_in hd, ?_⟩)
  rw [(hz z).1]
  exact nm_e (h1 (hz z).2)
theorem sw_check {post : Int32 → SX → Prop} {n : Nat} (hn : n < 14) (hd : sx_RG (a_dest n)) (hl : sx_RG (a_left n))
    (hw : ∀ w, w < 4 → a_watchedLoad w = nI n → a_early n = a_mem (a_watchedAt w).toNatClampNeg ∧ sx_fa a_barred (a_watchedAt w) = false)
    (h0 : sx_fa a_barred (a_reg (a_left n).toNatClampNeg + a_value n) = true → post 0 (f_count, f_lastEnd, f_ready, f_length, f_victim, a_op, a_dest, a_left, a_right, a_value, a_reg, a_mem, a_barred, a_used, a_before, a_height, a_issuedAt, a_order, a_source, a_early, a_sound, a_watchedLoad, a_watchedAt))
    (h1 : sx_fa a_barred (a_reg (a_left n).toNatClampNeg + a_value n) = false → post 1 (f_count, f_lastEnd, f_ready, f_length, f_victim, a_op, a_dest, a_left, a_right, a_value, upd a_reg (a_dest n).toNatClampNeg (a_mem (a_reg (a_left n).toNatClampNeg + a_value n).toNatClampNeg), a_mem, a_barred, a_used, a_before, a_height, a_issuedAt, a_order, a_source, a_early, a_sound, a_watchedLoad, a_watchedAt)) : wpX_check post (f_count, f_lastEnd, f_ready, f_length, f_victim, a_op, a_dest, a_left, a_right, a_value, a_reg, a_mem, a_barred, a_used, a_before, a_height, a_issuedAt, a_order, a_source, a_early, a_sound, a_watchedLoad, a_watchedAt) (nI n) := by
  have v : vp_in (nI n) 14 := vp_in_nI hn (by omega)
  refine And.intro v ?_
  rw [nI_clamp (by omega)]
  refine ⟨sx_RG_in hl, v, nm_e ⟨v, br_c (fun _ => sw_ck42 hn hd (fun z => absurd rfl z) h0 h1) (fun _ => ?_)⟩⟩
  refine sw_still (br_t rfl (sw_ck42 hn hd (fun z => absurd rfl z) h0 h1)) (fun ⟨w, h4, ew, ex⟩ => br_f (by decide) (sw_ck42 hn hd (fun _ => ?_) h0 h1))
  have g := hw w h4 ew
  rw [ex] at g
  exact g
theorem sw_storeAt {post : Int32 → SX → Prop} {n : Nat} (hn : n < 14) (hl : sx_RG (a_left n)) (hr : sx_RG (a_right n))
    (h0 : sx_fa a_barred (a_reg (a_left n).toNatClampNeg + a_value n) = true → post 0 (f_count, f_lastEnd, f_ready, f_length, f_victim, a_op, a_dest, a_left, a_right, a_value, a_reg, a_mem, a_barred, a_used, a_before, a_height, a_issuedAt, a_order, a_source, a_early, a_sound, a_watchedLoad, a_watchedAt))
    (h1 : sx_fa a_barred (a_reg (a_left n).toNatClampNeg + a_value n) = false → ∀ wl : Nat → Int32,
      (∀ w, w < 4 → (a_watchedAt w = a_reg (a_left n).toNatClampNeg + a_value n → wl w = -1) ∧ (¬ a_watchedAt w = a_reg (a_left n).toNatClampNeg + a_value n → wl w = a_watchedLoad w)) →
      post 1 (f_count, f_lastEnd, f_ready, f_length, f_victim, a_op, a_dest, a_left, a_right, a_value, a_reg, upd a_mem (a_reg (a_left n).toNatClampNeg + a_value n).toNatClampNeg (a_reg (a_right n).toNatClampNeg), a_barred, a_used, a_before, a_height, a_issuedAt, a_order, a_source, a_early, a_sound, wl, a_watchedAt)) : wpX_storeAt post (f_count, f_lastEnd, f_ready, f_length, f_victim, a_op, a_dest, a_left, a_right, a_value, a_reg, a_mem, a_barred, a_used, a_before, a_height, a_issuedAt, a_order, a_source, a_early, a_sound, a_watchedLoad, a_watchedAt) (nI n) := by
  have v : vp_in (nI n) 14 := vp_in_nI hn (by omega)
  refine And.intro v ?_
  rw [nI_clamp (by omega)]
  refine ⟨sx_RG_in hl, v, nm_e (sw_faults (fun f => br_f (by decide) (h0 f)) (fun f => br_t rfl ⟨v, sx_RG_in hr, sx_fa_in f, nm_e ?_⟩))⟩
  exact sw_stored (fun wl hwl => h1 f wl hwl)
/-- what a step may do to the watched loads -/
def sx_WL (bar wa wl wl' M M' : Nat → Int32) : Prop := ∀ w i : Nat, w < 4 → i < 14 → wl' w = nI i → wl w = nI i ∧ (sx_fa bar (wa w) = false → M' (wa w).toNatClampNeg = M (wa w).toNatClampNeg)
theorem sx_WL_r {bar wa wl M : Nat → Int32} : sx_WL bar wa wl wl M M := fun _ _ _ _ e => ⟨e, fun _ => rfl⟩
/-- instruction n at its place -/
theorem sw_exec {post : Int32 → SX → Prop} {n : Nat} (hn : n < 14) (W : sx_WF (a_op n) (a_dest n) (a_left n) (a_right n))
    (hw : ∀ w, w < 4 → a_watchedLoad w = nI n → a_early n = a_mem (a_watchedAt w).toNatClampNeg ∧ sx_fa a_barred (a_watchedAt w) = false)
    (hE : ¬ sx_en a_barred (a_op n) (a_left n) (a_value n) a_reg = 0 → ¬ a_op n < 3 → post (sx_en a_barred (a_op n) (a_left n) (a_value n) a_reg + 4 * nI n) (f_count, f_lastEnd, f_ready, f_length, f_victim, a_op, a_dest, a_left, a_right, a_value, a_reg, a_mem, a_barred, a_used, a_before, a_height, a_issuedAt, a_order, a_source, a_early, a_sound, a_watchedLoad, a_watchedAt))
    (hG : sx_en a_barred (a_op n) (a_left n) (a_value n) a_reg = 0 → ∀ wl : Nat → Int32, sx_WL a_barred a_watchedAt a_watchedLoad wl a_mem (sx_mm a_barred (a_op n) (a_left n) (a_right n) (a_value n) a_reg a_mem) →
      post (-1) (f_count, f_lastEnd, f_ready, f_length, f_victim, a_op, a_dest, a_left, a_right, a_value, sx_rg a_barred (a_op n) (a_dest n) (a_left n) (a_right n) (a_value n) a_reg a_mem, sx_mm a_barred (a_op n) (a_left n) (a_right n) (a_value n) a_reg a_mem, a_barred, a_used, a_before, a_height, a_issuedAt, a_order, a_source, a_early, a_sound, wl, a_watchedAt)) :
    wpX_execute post (f_count, f_lastEnd, f_ready, f_length, f_victim, a_op, a_dest, a_left, a_right, a_value, a_reg, a_mem, a_barred, a_used, a_before, a_height, a_issuedAt, a_order, a_source, a_early, a_sound, a_watchedLoad, a_watchedAt) (nI n) := by
  have v : vp_in (nI n) 14 := vp_in_nI hn (by omega)
  unfold wpX_execute
  rw [nI_clamp (by omega)]
  refine br_t (nI_lt (b := 14) hn (by omega)) ⟨v, ?_⟩
  rcases W with ⟨e, hd⟩ | ⟨e, hd, hl, hr⟩ | ⟨e, hd, hl, hr⟩ | ⟨e, hd, hl⟩ | ⟨e, hl, hr⟩ | ⟨e, hl⟩
  · rw [e] at hE hG
    refine nm_r e (br_f (by decide) (br_f (by decide) (br_f (by decide) (br_t rfl ⟨v, v, sx_RG_in hd, nm_e ?_⟩))))
    exact hG sx_en0 a_watchedLoad sx_WL_r
  · rw [e] at hE hG
    refine nm_r e (br_f (by decide) (br_f (by decide) (br_f (by decide) (br_f (by decide) (br_t rfl ⟨v, v, sx_RG_in hl, v, sx_RG_in hr, sx_RG_in hd, nm_e ?_⟩)))))
    exact hG sx_en1 a_watchedLoad sx_WL_r
  · rw [e] at hE hG
    refine nm_r e (br_f (by decide) (br_f (by decide) (br_f (by decide) (br_f (by decide) (br_f (by decide) ⟨v, v, sx_RG_in hl, v, sx_RG_in hr, sx_RG_in hd, nm_e ?_⟩)))))
    exact hG sx_en2 a_watchedLoad sx_WL_r
  · rw [e] at hE hG
    rw [sx_en3] at hE hG
    refine nm_r e (br_t rfl ?_)
    refine sw_check hn hd hl hw (fun f => br_t rfl ?_) (fun f => br_f (by decide) ?_)
    · rw [if_pos f] at hE
      exact hE (by decide) (by decide)
    · have f' : ¬ sx_fa a_barred (a_reg (a_left n).toNatClampNeg + a_value n) = true := by rw [f]; decide
      rw [if_neg f', sx_rg3, if_neg f'] at hG
      exact hG rfl a_watchedLoad sx_WL_r
  · rw [e] at hE hG
    rw [sx_en4] at hE hG
    refine nm_r e (br_f (by decide) (br_t rfl ?_))
    refine sw_storeAt hn hl hr (fun f => br_t rfl ?_) (fun f wl hwl => br_f (by decide) ?_)
    · rw [if_pos f] at hE
      exact hE (by decide) (by decide)
    · have f' : ¬ sx_fa a_barred (a_reg (a_left n).toNatClampNeg + a_value n) = true := by rw [f]; decide
      rw [if_neg f', sx_mm4, if_neg f'] at hG
      refine hG rfl wl (fun w i h4 hi e2 => ?_)
      by_cases z : a_watchedAt w = a_reg (a_left n).toNatClampNeg + a_value n
      · rw [(hwl w h4).1 z] at e2
        exact absurd e2.symm (sq_ne1 (by omega))
      · rw [(hwl w h4).2 z] at e2
        exact ⟨e2, fun g => pk_un (fun y => z (sx_fa_inj g f y))⟩
  · rw [e] at hE hG
    rw [sx_en5] at hE hG
    refine nm_r e (br_f (by decide) (br_f (by decide) (br_t rfl ⟨v, sx_RG_in hl, br_c (fun f => ?_) (fun f => ?_)⟩)))
    · rw [if_pos f] at hG
      exact hG rfl a_watchedLoad sx_WL_r
    · rw [if_neg f] at hE
      exact hE (by decide) (by decide)
end
end
section
/-! X's walk: a run -/
def sx_res (c f : Nat) (op d l r v bar R0 M0 : Nat → Int32) : Int32 := if f < c then sx_en bar (op f) (l f) (v f) (sx_T op d l r v bar R0 M0 f).1 + 4 * nI f else 0
def sx_WI (ord : Nat → Int32) (p : Nat) (bar mem early wl wa : Nat → Int32) : Prop :=
  ∀ w i : Nat, w < 4 → i < 14 → wl w = nI i → sx_dn ord p (14 + i) ∧ early i = mem (wa w).toNatClampNeg ∧ sx_fa bar (wa w) = false
theorem sx_en4n {e : Int32} {f : Nat} (h : ¬ e = 0) (he : e = 0 ∨ e = 1 ∨ e = 2) (hf : f < 14) : ∃ j : Nat, 0 < j ∧ j < 100 ∧ e + 4 * nI f = nI j := by
  rcases he with he | he | he
  · exact absurd he h
  · refine ⟨1 + 4 * f, by omega, by omega, ?_⟩
    rw [he]
    show nI 1 + nI 4 * nI f = _
    rw [pk_mul, nI_add]
  · refine ⟨2 + 4 * f, by omega, by omega, ?_⟩
    rw [he]
    show nI 2 + nI 4 * nI f = _
    rw [pk_mul, nI_add]
section
variable {f_count f_lastEnd f_ready f_length f_victim : Int32} {a_op a_dest a_left a_right a_value a_reg a_mem a_barred a_used a_before a_height a_issuedAt a_order a_source a_early a_sound a_watchedLoad a_watchedAt : Nat → Int32}
variable {R0 M0 : Nat → Int32}
theorem sw_r40 {post : Int32 → SX → Prop} {c L f : Nat} (hc : c ≤ 14) (W : ∀ i, i < c → sx_WF (a_op i) (a_dest i) (a_left i) (a_right i)) (S : sx_SC c L a_op a_dest a_left a_right a_order) (hs : sx_Src a_source)
    (O : sx_Out c f a_op a_dest a_left a_right a_value a_barred R0 M0)
    (K : ∀ (vic : Int32) (ear snd wl wa : Nat → Int32), post (sx_res c f a_op a_dest a_left a_right a_value a_barred R0 M0)
      (nI c, sx_res c f a_op a_dest a_left a_right a_value a_barred R0 M0, f_ready, nI L, vic, a_op, a_dest, a_left, a_right, a_value, (sx_T a_op a_dest a_left a_right a_value a_barred R0 M0 f).1, (sx_T a_op a_dest a_left a_right a_value a_barred R0 M0 f).2, a_barred, a_used, a_before, a_height, a_issuedAt, a_order, a_source, ear, snd, wl, wa)) :
    ∀ (d p v : Nat) (reg mem ear snd wl wa : Nat → Int32), p + d = L → v < 4 → sx_RI c a_op a_dest a_left a_right a_value a_barred R0 M0 a_order p reg → sx_MI c a_op a_dest a_left a_right a_value a_barred R0 M0 a_order p mem →
      sx_EI c a_op a_dest a_left a_right a_value a_barred R0 M0 a_order p → sx_WI a_order p a_barred mem ear wl wa →
      wX_run_40 post (d + 1) (-1) (nI p) (nI c) f_lastEnd f_ready (nI L) (nI v) a_op a_dest a_left a_right a_value reg mem a_barred a_used a_before a_height a_issuedAt a_order a_source ear snd wl wa := by
  have hL := S.1
  intro d
  induction d with
  | zero =>
    intro p v reg mem ear snd wl wa hp hv R M E I
    obtain rfl : p = L := by omega
    obtain ⟨e1, e2, e3⟩ := sx_fin S O R M E
    have er : sx_res c f a_op a_dest a_left a_right a_value a_barred R0 M0 = 0 := if_neg (by omega)
    rw [er] at K
    rw [e2, e3]
    exact br_t (nI_le (Nat.le_refl _) (by omega)) (br_f (by decide) (K _ _ _ _ _))
  | succ d ih =>
    intro p v reg mem ear snd wl wa hp hv R M E I
    have hpL : p < L := by omega
    obtain ⟨n, hn, e, u⟩ := S.2.1 p hpL
    refine br_f (nI_ge (by omega) (by omega)) (br_f (by decide) ⟨vp_in_nI (by omega) (by omega), ?_⟩)
    rw [nI_clamp (n := p) (by omega), e]
    rcases u with ⟨h14, hnc⟩ | ⟨h14, hnc, h3⟩
    · -- an instruction
      have w := W n hnc
      have cg := sx_cong (bar := a_barred) (v := a_value n) (R := (sx_T a_op a_dest a_left a_right a_value a_barred R0 M0 n).1) (M := (sx_T a_op a_dest a_left a_right a_value a_barred R0 M0 n).2) (R' := reg) (M' := mem) w (fun q hq h => sx_read W S hpL e hnc R hq h) (fun h => sx_readM S hpL e hnc M h)
      refine sw_exec h14 w (fun w4 h4 ew => (I w4 n h4 h14 ew).2) (fun hne h3 => ?_) (fun h0 wl' hwl => ?_)
      · -- it ends the run
        have hr := sx_endR W S hpL e hnc R h3
        have hm := sx_readM S hpL e hnc M h3
        rw [cg.1] at hne
        have ef := sx_end S O hpL e hnc h3 E hne
        subst ef
        have er : sx_res c n a_op a_dest a_left a_right a_value a_barred R0 M0 = sx_en a_barred (a_op n) (a_left n) (a_value n) (sx_T a_op a_dest a_left a_right a_value a_barred R0 M0 n).1 + 4 * nI n := if_pos hnc
        obtain ⟨j, j0, j1, ej⟩ := sx_en4n (f := n) hne sx_en_012 h14
        rw [cg.1, hr, hm]
        rw [er, ej] at K
        rw [ej]
        refine nm_e ?_
        have g : wX_run_69 post (nI j) (nI c) f_lastEnd f_ready (nI L) (nI v) a_op a_dest a_left a_right a_value ((sx_T a_op a_dest a_left a_right a_value a_barred R0 M0 n).1) ((sx_T a_op a_dest a_left a_right a_value a_barred R0 M0 n).2) a_barred a_used a_before a_height a_issuedAt a_order a_source ear snd wl wa := br_t (nI_pos' (by omega)) (K _ _ _ _ _)
        exact br_c (fun _ => g) (fun _ => br_t (nI_pos' (by omega)) g)
      · -- it goes on
        have h0' := h0
        rw [cg.1] at h0'
        refine nm_r (nI_1 p) (ih (p + 1) v _ _ ear snd wl' wa (by omega) hv ?_ ?_ ?_ ?_)
        · refine sx_RI_s hc W S hpL e hnc R (fun q hq => cg.2.1 q hq) (fun q hq => sx_rg_n w hq)
        · by_cases h3 : a_op n < 3
          · rw [sx_mm_n h3]
            exact sx_MI_s1 hc e hn M (fun _ => h3)
          · exact sx_MI_s2 hc S hpL e hnc h3 (cg.2.2 h3)
        · exact sx_EI_s hc e hn E (fun _ => h0')
        · intro w4 i h4 hi ew
          obtain ⟨g1, g2⟩ := hwl w4 i h4 hi ew
          obtain ⟨k1, k2, k3⟩ := I w4 i h4 hi g1
          exact ⟨sx_dn_m k1, k2.trans (g2 k3).symm, k3⟩
    · -- an early load
      have w := W (n - 14) (by omega)
      have hl : sx_RG (a_left (n - 14)) := by
        rcases w with ⟨e, _⟩ | ⟨e, _⟩ | ⟨e, _⟩ | ⟨_, _, hl⟩ | ⟨e, _⟩ | ⟨e, _⟩
        · rw [h3] at e; exact absurd e (by decide)
        · rw [h3] at e; exact absurd e (by decide)
        · rw [h3] at e; exact absurd e (by decide)
        · exact hl
        · rw [h3] at e; exact absurd e (by decide)
        · rw [h3] at e; exact absurd e (by decide)
      have R' := sx_RI_e hc e h14 hn R
      have M' := sx_MI_s1 hc e hn M (fun z => by omega)
      have E' := sx_EI_s hc e hn E (fun z => by omega)
      have I' : sx_WI a_order (p + 1) a_barred mem ear wl wa := fun w4 i h4 hi ew => ⟨sx_dn_m (I w4 i h4 hi ew).1, (I w4 i h4 hi ew).2⟩
      refine br_f (nI_nlt (b := 14) h14 (by omega)) ?_
      rw [show nI n - 14 = nI (n - 14) from pk_sub (b := 14) h14]
      refine sw_loadEarly (by omega) hv hl hs (fun snd' => ?_) (fun v' x snd' hv' hf => ?_)
      · exact nm_r (nI_1 p) (ih (p + 1) v reg mem ear snd' wl wa (by omega) hv R' M' E' I')
      · refine nm_r (nI_1 p) (ih (p + 1) v' reg mem _ snd' _ _ (by omega) hv' R' M' E' ?_)
        intro w4 i h4 hi ew
        by_cases z : w4 = v
        · rw [z, pk_us] at ew
          rw [z, pk_us]
          obtain rfl : n - 14 = i := sq_im ew (by omega) (by omega)
          rw [pk_us]
          refine ⟨⟨p, by omega, ?_⟩, rfl, hf⟩
          rw [e, show 14 + (n - 14) = n by omega]
        · rw [pk_un z] at ew
          rw [pk_un z]
          have k := I w4 i h4 hi ew
          have ni : i ≠ n - 14 := by
            intro y
            have := k.1
            rw [y, show 14 + (n - 14) = n by omega] at this
            exact sx_nd S hpL e this
          rw [pk_un ni]
          exact ⟨sx_dn_m k.1, k.2⟩
theorem sw_r11 {post : Int32 → SX → Prop} (K : ∀ wl wa : Nat → Int32, (∀ w, w < 4 → wl w = -1) → ∃ n, wX_run_40 post n (-1) 0 f_count f_lastEnd f_ready f_length f_victim a_op a_dest a_left a_right a_value a_reg a_mem a_barred a_used a_before a_height a_issuedAt a_order a_source a_early a_sound wl wa) :
    ∀ (d m : Nat) (wl wa : Nat → Int32), m + d = 4 → (∀ w, w < m → wl w = -1) → wX_run_11 post f_count f_lastEnd f_ready f_length f_victim (d + 1) (nI m) a_op a_dest a_left a_right a_value a_reg a_mem a_barred a_used a_before a_height a_issuedAt a_order a_source a_early a_sound wl wa := by
  intro d
  induction d with
  | zero =>
    intro m wl wa hm h
    obtain rfl : m = 4 := by omega
    exact br_t (nI_le (a := 4) (Nat.le_refl _) (by omega)) (K wl wa h)
  | succ d ih =>
    intro m wl wa hm h
    have v : vp_in (nI m) 4 := vp_in_nI (by omega) (by omega)
    refine br_f (nI_ge (b := 4) (by omega) (by omega)) ⟨v, ?_⟩
    rw [nI_clamp (by omega)]
    refine nm_e ⟨v, nm_e (nm_r (nI_1 m) (ih (m + 1) _ _ (by omega) (fun w hw => ?_)))⟩
    by_cases z : w = m
    · rw [z, pk_us]
    · rw [pk_un z]; exact h w (by omega)
theorem sw_run {post : Int32 → SX → Prop} {c L f : Nat} (hc : c ≤ 14) (W : ∀ i, i < c → sx_WF (a_op i) (a_dest i) (a_left i) (a_right i)) (hs : sx_Src a_source) (hr : ¬ f_ready = 0 → sx_SC c L a_op a_dest a_left a_right a_order)
    (O : sx_Out c f a_op a_dest a_left a_right a_value a_barred a_reg a_mem)
    (K : ∀ (ready : Int32) (L' : Nat) (vic : Int32) (used bef hgt iss ord src ear snd wl wa : Nat → Int32), sx_SC c L' a_op a_dest a_left a_right ord → sx_Src src →
      post (sx_res c f a_op a_dest a_left a_right a_value a_barred a_reg a_mem)
      (nI c, sx_res c f a_op a_dest a_left a_right a_value a_barred a_reg a_mem, ready, nI L', vic, a_op, a_dest, a_left, a_right, a_value, (sx_T a_op a_dest a_left a_right a_value a_barred a_reg a_mem f).1, (sx_T a_op a_dest a_left a_right a_value a_barred a_reg a_mem f).2, a_barred, used, bef, hgt, iss, ord, src, ear, snd, wl, wa)) :
    wpX_run post (nI c, f_lastEnd, f_ready, nI L, f_victim, a_op, a_dest, a_left, a_right, a_value, a_reg, a_mem, a_barred, a_used, a_before, a_height, a_issuedAt, a_order, a_source, a_early, a_sound, a_watchedLoad, a_watchedAt) := by
  unfold wpX_run
  refine sw_schedule hc hs hr (fun ready L' used bef hgt iss ord src hS hsrc => ⟨5, ?_⟩)
  refine sw_r11 (fun wl wa hw => ⟨L' + 1, ?_⟩) 4 0 a_watchedLoad a_watchedAt (by omega) (fun w hw => by omega)
  refine sw_r40 hc W hS hsrc O (fun vic ear snd wl wa => K ready L' vic used bef hgt iss ord src ear snd wl wa hS hsrc) L' 0 0 a_reg a_mem a_early a_sound wl wa (by omega) (by omega) (sx_RI_b W) sx_MI_b sx_EI_b ?_
  intro w i h4 hi e
  rw [hw w h4] at e
  exact absurd e.symm (sq_ne1 (by omega))
end
end
section
/-! Y's walk -/
section
variable {f_size f_last : Int32} {a_kind a_first a_second a_third a_registers a_words : Nat → Int32}
variable {a_op a_dest a_left a_right a_value a_barred R0 M0 : Nat → Int32}
theorem sy_isReg {post : Int32 → Prop} {x : Int32} (h1 : sx_RG x → post 1) (h0 : ¬ sx_RG x → post 0) : wpY_isRegister post (f_size, f_last, a_kind, a_first, a_second, a_third, a_registers, a_words, a_barred) x := by
  refine br_c (fun a => h0 (fun z => (sx_RG_n z).1 a)) (fun a => br_c (fun b => h0 (fun z => ?_)) (fun b => h1 (sx_RG_of a (Int32.not_lt.mp b))))
  exact Int32.not_lt.mpr (sx_RG_n z).2 b
theorem sy_isAdr {post : Int32 → Prop} {x : Int32} (h1 : ¬ x < 0 → x ≤ 15 → post 1) (h0 : (x < 0 ∨ ¬ x ≤ 15) → post 0) : wpY_isAddress post (f_size, f_last, a_kind, a_first, a_second, a_third, a_registers, a_words, a_barred) x :=
  br_c (fun a => h0 (Or.inl a)) (fun a => br_c (fun b => h0 (Or.inr (Int32.not_le.mpr b))) (fun b => h1 a (Int32.not_lt.mp b)))
theorem sy_e159 {post : Int32 → SY → Prop} {i : Nat} {x2 x4 z0 : Int32} (hi : i < 14) (h2 : sx_fa a_barred z0 = true → post 2 (f_size, f_last, a_kind, a_first, a_second, a_third, a_registers, a_words, a_barred))
    (h3 : sx_fa a_barred z0 = false → a_kind i = 3 → vp_in x2 8 ∧ post 0 (f_size, f_last, a_kind, a_first, a_second, a_third, upd a_registers x2.toNatClampNeg (a_words z0.toNatClampNeg), a_words, a_barred))
    (h4 : sx_fa a_barred z0 = false → ¬ a_kind i = 3 → vp_in x4 8 ∧ post 0 (f_size, f_last, a_kind, a_first, a_second, a_third, a_registers, upd a_words z0.toNatClampNeg (a_registers x4.toNatClampNeg), a_barred)) :
    wY_execute_159 post (nI i) x2 x4 z0 f_size f_last a_kind a_first a_second a_third a_registers a_words a_barred := by
  have hT : ¬ (¬ z0 < 0 ∧ z0 ≤ 15 ∧ a_barred z0.toNatClampNeg = 0) → sx_fa a_barred z0 = true := by
    intro z
    cases e : sx_fa a_barred z0 with
    | true => rfl
    | false => exact absurd (sx_fa_f.mp e) z
  unfold wY_execute_159
  rw [nI_clamp (by omega)]
  refine sy_isAdr (fun a b => br_f (by decide) ⟨sw_in16 a b, br_c (fun e => ?_) (fun e => h2 (hT (fun z => e z.2.2)))⟩) (fun a => br_t rfl (h2 (hT (fun z => ?_))))
  · have f := sx_fa_f.mpr ⟨a, b, e⟩
    refine ⟨vp_in_nI hi (by omega), br_c (fun k => ⟨sw_in16 a b, (h3 f k).1, nm_e (h3 f k).2⟩) (fun k => ⟨(h4 f k).1, sw_in16 a b, nm_e (h4 f k).2⟩)⟩
  · rcases a with a | a
    · exact z.1 a
    · exact a z.2.1
theorem sy_exec {post : Int32 → SY → Prop} {i : Nat} (hi : i < 14) (P : sx_PR (a_op i) (a_dest i) (a_left i) (a_right i) (a_value i) (a_kind i) (a_first i) (a_second i) (a_third i))
    (h : post (sx_en a_barred (a_op i) (a_left i) (a_value i) a_registers) (f_size, f_last, a_kind, a_first, a_second, a_third, sx_rg a_barred (a_op i) (a_dest i) (a_left i) (a_right i) (a_value i) a_registers a_words, sx_mm a_barred (a_op i) (a_left i) (a_right i) (a_value i) a_registers a_words, a_barred)) :
    wpY_execute post (f_size, f_last, a_kind, a_first, a_second, a_third, a_registers, a_words, a_barred) (nI i) := by
  have v : vp_in (nI i) 14 := vp_in_nI hi (by omega)
  unfold wpY_execute
  rw [nI_clamp (by omega)]
  rcases P with ⟨e, k, hd, ea, eb⟩ | ⟨e, k, hd, hl, hr, ea, eb, ec⟩ | ⟨e, k, hd, hl, hr, ea, eb, ec⟩ | ⟨e, k, hd, hl, ea, eb, ec⟩ | ⟨e, k, hl, hr, ea, eb, ec⟩ | ⟨e, k, hl, ea⟩
  · rw [e] at h
    refine ⟨v, nm_r ea ⟨v, nm_r eb ⟨v, nm_e ⟨v, br_t k ⟨sx_RG_in hd, nm_e ?_⟩⟩⟩⟩⟩
    exact h
  · rw [e] at h
    refine ⟨v, nm_r ea ⟨v, nm_r eb ⟨v, nm_r ec ⟨v, br_f (by rw [k]; decide) ⟨v, br_t k ⟨sx_RG_in hl, sx_RG_in hr, sx_RG_in hd, nm_e ?_⟩⟩⟩⟩⟩⟩
    exact h
  · rw [e] at h
    refine ⟨v, nm_r ea ⟨v, nm_r eb ⟨v, nm_r ec ⟨v, br_f (by rw [k]; decide) ⟨v, br_f (by rw [k]; decide) ⟨v, br_t k ⟨sx_RG_in hl, sx_RG_in hr, sx_RG_in hd, nm_e ?_⟩⟩⟩⟩⟩⟩⟩
    exact h
  · rw [e, sx_en3, sx_rg3, sx_mm3] at h
    refine ⟨v, nm_r ea ⟨v, nm_r eb ⟨v, nm_r ec ⟨v, br_f (by rw [k]; decide) ⟨v, br_f (by rw [k]; decide) ⟨v, br_f (by rw [k]; decide) ⟨v, br_f (by rw [k]; decide) ⟨v, br_t k ⟨sx_RG_in hl, ?_⟩⟩⟩⟩⟩⟩⟩⟩⟩
    refine sy_e159 hi (fun f => ?_) (fun f _ => ⟨sx_RG_in hd, ?_⟩) (fun _ z => absurd k z)
    · rw [if_pos f, if_pos f] at h; exact h
    · have f' : ¬ sx_fa a_barred (a_registers (a_left i).toNatClampNeg + a_value i) = true := by rw [f]; decide
      rw [if_neg f', if_neg f'] at h; exact h
  · rw [e, sx_en4, sx_rg4, sx_mm4] at h
    have k3 : ¬ a_kind i = 3 := by rw [k]; decide
    refine ⟨v, nm_r ea ⟨v, nm_r eb ⟨v, nm_r ec ⟨v, br_f (by rw [k]; decide) ⟨v, br_f (by rw [k]; decide) ⟨v, br_f (by rw [k]; decide) ⟨v, br_f (by rw [k]; decide) ⟨v, br_f k3 ⟨sx_RG_in hl, ?_⟩⟩⟩⟩⟩⟩⟩⟩⟩
    refine sy_e159 hi (fun f => ?_) (fun _ z => absurd z k3) (fun f _ => ⟨sx_RG_in hr, ?_⟩)
    · rw [if_pos f, if_pos f] at h; exact h
    · have f' : ¬ sx_fa a_barred (a_registers (a_left i).toNatClampNeg + a_value i) = true := by rw [f]; decide
      rw [if_neg f', if_neg f'] at h; exact h
  · rw [e, sx_en5, sx_rg5, sx_mm5] at h
    refine ⟨v, nm_r ea ⟨v, nm_e ⟨v, nm_e ⟨v, br_f (by rw [k]; decide) ⟨v, br_f (by rw [k]; decide) ⟨v, br_f (by rw [k]; decide) ⟨v, br_t k ⟨sx_RG_in hl, br_c (fun f => ?_) (fun f => ?_)⟩⟩⟩⟩⟩⟩⟩⟩
    · rw [if_pos f] at h; exact h
    · rw [if_neg f] at h; exact h
theorem sy_r7 {post : Int32 → SY → Prop} {c f : Nat} (hc : c ≤ 14) (P : ∀ i, i < c → sx_PR (a_op i) (a_dest i) (a_left i) (a_right i) (a_value i) (a_kind i) (a_first i) (a_second i) (a_third i))
    (O : sx_Out c f a_op a_dest a_left a_right a_value a_barred R0 M0)
    (K : post (sx_res c f a_op a_dest a_left a_right a_value a_barred R0 M0) (nI c, sx_res c f a_op a_dest a_left a_right a_value a_barred R0 M0, a_kind, a_first, a_second, a_third, (sx_T a_op a_dest a_left a_right a_value a_barred R0 M0 f).1, (sx_T a_op a_dest a_left a_right a_value a_barred R0 M0 f).2, a_barred)) :
    ∀ (d i : Nat), i + d = f → wY_run_7 post (d + 2) (nI i) (nI c) 0 a_kind a_first a_second a_third ((sx_T a_op a_dest a_left a_right a_value a_barred R0 M0 i).1) ((sx_T a_op a_dest a_left a_right a_value a_barred R0 M0 i).2) a_barred := by
  have hf := O.1
  intro d
  induction d with
  | zero =>
    intro i hi
    obtain rfl : i = f := by omega
    rcases Nat.lt_or_ge i c with z | z
    · have hne := O.2.2 z
      have kp := sx_en_keep (M := (sx_T a_op a_dest a_left a_right a_value a_barred R0 M0 i).2) (sx_PR_WF (P i z)) hne
      have er : sx_res c i a_op a_dest a_left a_right a_value a_barred R0 M0 = sx_en a_barred (a_op i) (a_left i) (a_value i) (sx_T a_op a_dest a_left a_right a_value a_barred R0 M0 i).1 + 4 * nI i := if_pos z
      obtain ⟨j, j0, j1, ej⟩ := sx_en4n (f := i) hne sx_en_012 (by omega)
      rw [er] at K
      refine br_f (nI_ge (by omega) (by omega)) (br_t rfl (sy_exec (by omega) (P i z) ?_))
      rw [kp.1, kp.2]
      refine br_f hne (nm_e (nm_e ?_))
      refine br_c (fun _ => K) (fun _ => br_f ?_ K)
      rw [ej]
      exact nI_ne0 j0 (by omega)
    · have er : sx_res c i a_op a_dest a_left a_right a_value a_barred R0 M0 = 0 := if_neg (by omega)
      rw [er] at K
      exact br_t (nI_le (by omega) (by omega)) K
  | succ d ih =>
    intro i hi
    refine br_f (nI_ge (by omega) (by omega)) (br_t rfl (sy_exec (by omega) (P i (by omega)) ?_))
    exact br_t (O.2.1 i (by omega)) (nm_r (nI_1 i) (ih (i + 1) (by omega)))
theorem sy_run {post : Int32 → SY → Prop} {c f : Nat} (hc : c ≤ 14) (P : ∀ i, i < c → sx_PR (a_op i) (a_dest i) (a_left i) (a_right i) (a_value i) (a_kind i) (a_first i) (a_second i) (a_third i))
    (O : sx_Out c f a_op a_dest a_left a_right a_value a_barred a_registers a_words)
    (K : post (sx_res c f a_op a_dest a_left a_right a_value a_barred a_registers a_words) (nI c, sx_res c f a_op a_dest a_left a_right a_value a_barred a_registers a_words, a_kind, a_first, a_second, a_third, (sx_T a_op a_dest a_left a_right a_value a_barred a_registers a_words f).1, (sx_T a_op a_dest a_left a_right a_value a_barred a_registers a_words f).2, a_barred)) :
    wpY_run post (nI c, f_last, a_kind, a_first, a_second, a_third, a_registers, a_words, a_barred) := ⟨f + 2, sy_r7 hc P O K f 0 (by omega)⟩
end
end
section
/-! the relation -/
def sx_FA (c L : Nat) (ready : Int32) (op d l r v kind fst snd thd ord src : Nat → Int32) : Prop :=
  c ≤ 14 ∧ (∀ i, i < c → sx_PR (op i) (d i) (l i) (r i) (v i) (kind i) (fst i) (snd i) (thd i)) ∧ (¬ ready = 0 → sx_SC c L op d l r ord) ∧ sx_Src src
def i_Rel (_k : Nat) (u : SX) (v : SY) : Prop := match u, v with
  | (f_count, f_lastEnd, f_ready, f_length, f_victim, a_op, a_dest, a_left, a_right, a_value, a_reg, a_mem, a_barred, a_used, a_before, a_height, a_issuedAt, a_order, a_source, a_early, a_sound, a_watchedLoad, a_watchedAt), (f_size, f_last, a_kind, a_first, a_second, a_third, a_registers, a_words, b_barred) => ∃ c L : Nat, f_count = nI c ∧ f_length = nI L ∧ f_size = f_count ∧ f_last = f_lastEnd ∧ a_registers = a_reg ∧ a_words = a_mem ∧ b_barred = a_barred ∧
      sx_FA c L f_ready a_op a_dest a_left a_right a_value a_kind a_first a_second a_third a_order a_source
theorem i_up {k : Nat} {u : SX} {v : SY} (h : i_Rel k u v) : i_Rel (k + 4) u v := h
section
variable {f_count f_lastEnd f_ready f_length f_victim : Int32} {a_op a_dest a_left a_right a_value a_reg a_mem a_barred a_used a_before a_height a_issuedAt a_order a_source a_early a_sound a_watchedLoad a_watchedAt : Nat → Int32}
variable {a_kind a_first a_second a_third : Nat → Int32}
theorem sr_in {k c L : Nat} (h : sx_FA c L f_ready a_op a_dest a_left a_right a_value a_kind a_first a_second a_third a_order a_source) :
    i_Rel k (nI c, f_lastEnd, f_ready, nI L, f_victim, a_op, a_dest, a_left, a_right, a_value, a_reg, a_mem, a_barred, a_used, a_before, a_height, a_issuedAt, a_order, a_source, a_early, a_sound, a_watchedLoad, a_watchedAt) (nI c, f_lastEnd, a_kind, a_first, a_second, a_third, a_reg, a_mem, a_barred) := ⟨c, L, rfl, rfl, rfl, rfl, rfl, rfl, rfl, h⟩
end
theorem sr_el {P : SX → SY → Prop} (h : ∀ (c L : Nat) (f_lastEnd f_ready f_victim : Int32) (a_op a_dest a_left a_right a_value a_reg a_mem a_barred a_used a_before a_height a_issuedAt a_order a_source a_early a_sound a_watchedLoad a_watchedAt a_kind a_first a_second a_third : Nat → Int32),
      sx_FA c L f_ready a_op a_dest a_left a_right a_value a_kind a_first a_second a_third a_order a_source →
      P (nI c, f_lastEnd, f_ready, nI L, f_victim, a_op, a_dest, a_left, a_right, a_value, a_reg, a_mem, a_barred, a_used, a_before, a_height, a_issuedAt, a_order, a_source, a_early, a_sound, a_watchedLoad, a_watchedAt) (nI c, f_lastEnd, a_kind, a_first, a_second, a_third, a_reg, a_mem, a_barred))
    {k : Nat} {u : SX} {v : SY} (I : i_Rel k u v) : P u v := by
  obtain ⟨f_count, f_lastEnd, f_ready, f_length, f_victim, a_op, a_dest, a_left, a_right, a_value, a_reg, a_mem, a_barred, a_used, a_before, a_height, a_issuedAt, a_order, a_source, a_early, a_sound, a_watchedLoad, a_watchedAt⟩ := u
  obtain ⟨f_size, f_last, a_kind, a_first, a_second, a_third, a_registers, a_words, b_barred⟩ := v
  obtain ⟨c, L, e1, e2, e3, e4, e5, e6, e7, hF⟩ := I
  subst e3 e4 e5 e6 e7 e1 e2
  exact h c L _ _ _ _ _ _ _ _ _ _ _ _ _ _ _ _ _ _ _ _ _ _ _ _ _ hF
theorem i_vc0 : wpX_init (fun u => wpY_init (fun v => i_Rel 0 u v)) :=
  Exists.intro 0 (Exists.intro 0 ⟨rfl, rfl, rfl, rfl, rfl, rfl, rfl, by omega, fun i hi => absurd hi (by omega), fun z => absurd rfl z, fun j hj => Or.inr ⟨0, by omega, rfl⟩⟩)
end
section
/-! the calls that build the program, registers, words -/
section
variable {f_count f_lastEnd f_ready f_length f_victim : Int32} {a_op a_dest a_left a_right a_value a_reg a_mem a_barred a_used a_before a_height a_issuedAt a_order a_source a_early a_sound a_watchedLoad a_watchedAt : Nat → Int32}
variable {f_size f_last : Int32} {a_kind a_first a_second a_third a_registers a_words : Nat → Int32}
theorem sw_badReg {post : Int32 → Prop} {x : Int32} (h0 : sx_RG x → post 0) (h1 : ¬ sx_RG x → post 1) : wpX_badReg post (f_count, f_lastEnd, f_ready, f_length, f_victim, a_op, a_dest, a_left, a_right, a_value, a_reg, a_mem, a_barred, a_used, a_before, a_height, a_issuedAt, a_order, a_source, a_early, a_sound, a_watchedLoad, a_watchedAt) x :=
  br_c (fun a => h1 (fun z => (sx_RG_n z).1 a)) (fun a => br_c (fun b => h0 (sx_RG_of a b)) (fun b => h1 (fun z => b (sx_RG_n z).2)))
theorem sw_append {post : Int32 → SX → Prop} {c : Nat} {p0 p1 p2 p3 p4 : Int32} (hc : c ≤ 14) (h14 : c = 14 → post (-2) (nI c, f_lastEnd, f_ready, f_length, f_victim, a_op, a_dest, a_left, a_right, a_value, a_reg, a_mem, a_barred, a_used, a_before, a_height, a_issuedAt, a_order, a_source, a_early, a_sound, a_watchedLoad, a_watchedAt))
    (h : c < 14 → post (nI c) (nI (c + 1), f_lastEnd, 0, f_length, f_victim, upd a_op c p0, upd a_dest c p1, upd a_left c p2, upd a_right c p3, upd a_value c p4, a_reg, a_mem, a_barred, a_used, a_before, a_height, a_issuedAt, a_order, a_source, a_early, a_sound, a_watchedLoad, a_watchedAt)) : wpX_append post (nI c, f_lastEnd, f_ready, f_length, f_victim, a_op, a_dest, a_left, a_right, a_value, a_reg, a_mem, a_barred, a_used, a_before, a_height, a_issuedAt, a_order, a_source, a_early, a_sound, a_watchedLoad, a_watchedAt) p0 p1 p2 p3 p4 := by
  refine pk_eq c 14 (fun e => h14 e) (fun e => ?_)
  rw [nI_clamp (by omega)]
  have v : vp_in (nI c) 14 := vp_in_nI (by omega) (by omega)
  refine ⟨v, nm_e ⟨v, nm_e ⟨v, nm_e ⟨v, nm_e ⟨v, nm_e (nm_r (nI_1 c) ?_)⟩⟩⟩⟩⟩
  rw [nI_pred]
  exact h (by omega)
theorem sy_append {post : Int32 → SY → Prop} {c : Nat} {p0 p1 p2 p3 : Int32} (hc : c ≤ 14) (h14 : c = 14 → post (-2) (nI c, f_last, a_kind, a_first, a_second, a_third, a_registers, a_words, a_barred))
    (h : c < 14 → post (nI c) (nI (c + 1), f_last, upd a_kind c p0, upd a_first c p1, upd a_second c p2, upd a_third c p3, a_registers, a_words, a_barred)) : wpY_append post (nI c, f_last, a_kind, a_first, a_second, a_third, a_registers, a_words, a_barred) p0 p1 p2 p3 := by
  refine pk_eq c 14 (fun e => h14 e) (fun e => ?_)
  rw [nI_clamp (by omega)]
  have v : vp_in (nI c) 14 := vp_in_nI (by omega) (by omega)
  refine ⟨v, nm_e ⟨v, nm_e ⟨v, nm_e ⟨v, nm_e (nm_r (nI_1 c) ?_)⟩⟩⟩⟩
  rw [nI_pred]
  exact h (by omega)
end
theorem sx_FA_s {c L : Nat} {ready : Int32} {op d l r v kind fst snd thd ord src : Nat → Int32} {p0 p1 p2 p3 p4 q0 q1 q2 q3 : Int32} (F : sx_FA c L ready op d l r v kind fst snd thd ord src) (hc : c < 14)
    (P : sx_PR p0 p1 p2 p3 p4 q0 q1 q2 q3) : sx_FA (c + 1) L 0 (upd op c p0) (upd d c p1) (upd l c p2) (upd r c p3) (upd v c p4) (upd kind c q0) (upd fst c q1) (upd snd c q2) (upd thd c q3) ord src := by
  refine ⟨by omega, fun i hi => ?_, fun z => absurd rfl z, F.2.2.2⟩
  by_cases e : i = c
  · subst e
    rw [pk_us, pk_us, pk_us, pk_us, pk_us, pk_us, pk_us, pk_us, pk_us]
    exact P
  · rw [pk_un e, pk_un e, pk_un e, pk_un e, pk_un e, pk_un e, pk_un e, pk_un e, pk_un e]
    exact F.2.1 i (by omega)
theorem i_vc_constant {k : Nat} {u : SX} {v : SY} (I : i_Rel k u v) (hk : k + 4 ≤ 2048) (v1 : Int32) (v2 : Int32) : wpX_constant (fun r u' => wpY_constant (fun r' v' => r' = r ∧ i_Rel (k + 4) u' v') v v1 v2) u v1 v2 := by
  refine sr_el (P := fun u v => wpX_constant (fun r u' => wpY_constant (fun r' v' => r' = r ∧ i_Rel (k + 4) u' v') v v1 v2) u v1 v2) ?_ I
  intro c L f_lastEnd f_ready f_victim a_op a_dest a_left a_right a_value a_reg a_mem a_barred a_used a_before a_height a_issuedAt a_order a_source a_early a_sound a_watchedLoad a_watchedAt a_kind a_first a_second a_third F
  unfold wpX_constant
  refine sw_badReg (fun hv1 => br_t rfl ?_) (fun hv1 => br_f (by decide) ?_)
  · refine sw_append F.1 (fun e => ?_) (fun e => ?_)
    · unfold wpY_constant
      refine sy_isReg (fun _ => br_f (by decide) ?_) (fun z => absurd hv1 z)
      exact sy_append F.1 (fun _ => ⟨rfl, sr_in F⟩) (fun z => absurd e (by omega))
    · unfold wpY_constant
      refine sy_isReg (fun _ => br_f (by decide) ?_) (fun z => absurd hv1 z)
      exact sy_append F.1 (fun z => absurd e (by omega)) (fun _ => ⟨rfl, sr_in (sx_FA_s F e (Or.inl ⟨rfl, rfl, hv1, rfl, rfl⟩))⟩)
  · unfold wpY_constant
    refine sy_isReg (fun z => absurd z hv1) (fun _ => br_t rfl ⟨rfl, sr_in F⟩)
theorem i_vc_add {k : Nat} {u : SX} {v : SY} (I : i_Rel k u v) (hk : k + 4 ≤ 2048) (v1 : Int32) (v2 : Int32) (v3 : Int32) : wpX_add (fun r u' => wpY_add (fun r' v' => r' = r ∧ i_Rel (k + 4) u' v') v v1 v2 v3) u v1 v2 v3 := by
  refine sr_el (P := fun u v => wpX_add (fun r u' => wpY_add (fun r' v' => r' = r ∧ i_Rel (k + 4) u' v') v v1 v2 v3) u v1 v2 v3) ?_ I
  intro c L f_lastEnd f_ready f_victim a_op a_dest a_left a_right a_value a_reg a_mem a_barred a_used a_before a_height a_issuedAt a_order a_source a_early a_sound a_watchedLoad a_watchedAt a_kind a_first a_second a_third F
  unfold wpX_add
  refine sw_badReg (fun hv1 => br_t rfl ?_) (fun hv1 => br_f (by decide) ?_)
  · refine sw_badReg (fun hv2 => br_t rfl ?_) (fun hv2 => br_f (by decide) ?_)
    · refine sw_badReg (fun hv3 => br_t rfl ?_) (fun hv3 => br_f (by decide) ?_)
      · refine sw_append F.1 (fun e => ?_) (fun e => ?_)
        · unfold wpY_add
          refine sy_isReg (fun _ => br_f (by decide) ?_) (fun z => absurd hv1 z)
          refine sy_isReg (fun _ => br_f (by decide) ?_) (fun z => absurd hv2 z)
          refine sy_isReg (fun _ => br_f (by decide) ?_) (fun z => absurd hv3 z)
          exact sy_append F.1 (fun _ => ⟨rfl, sr_in F⟩) (fun z => absurd e (by omega))
        · unfold wpY_add
          refine sy_isReg (fun _ => br_f (by decide) ?_) (fun z => absurd hv1 z)
          refine sy_isReg (fun _ => br_f (by decide) ?_) (fun z => absurd hv2 z)
          refine sy_isReg (fun _ => br_f (by decide) ?_) (fun z => absurd hv3 z)
          exact sy_append F.1 (fun z => absurd e (by omega)) (fun _ => ⟨rfl, sr_in (sx_FA_s F e (Or.inr (Or.inl ⟨rfl, rfl, hv1, hv2, hv3, rfl, rfl, rfl⟩)))⟩)
      · unfold wpY_add
        refine sy_isReg (fun _ => br_f (by decide) ?_) (fun z => absurd hv1 z)
        refine sy_isReg (fun _ => br_f (by decide) ?_) (fun z => absurd hv2 z)
        refine sy_isReg (fun z => absurd z hv3) (fun _ => br_t rfl ⟨rfl, sr_in F⟩)
    · unfold wpY_add
      refine sy_isReg (fun _ => br_f (by decide) ?_) (fun z => absurd hv1 z)
      refine sy_isReg (fun z => absurd z hv2) (fun _ => br_t rfl ⟨rfl, sr_in F⟩)
  · unfold wpY_add
    refine sy_isReg (fun z => absurd z hv1) (fun _ => br_t rfl ⟨rfl, sr_in F⟩)
theorem i_vc_subtract {k : Nat} {u : SX} {v : SY} (I : i_Rel k u v) (hk : k + 4 ≤ 2048) (v1 : Int32) (v2 : Int32) (v3 : Int32) : wpX_subtract (fun r u' => wpY_subtract (fun r' v' => r' = r ∧ i_Rel (k + 4) u' v') v v1 v2 v3) u v1 v2 v3 := by
  refine sr_el (P := fun u v => wpX_subtract (fun r u' => wpY_subtract (fun r' v' => r' = r ∧ i_Rel (k + 4) u' v') v v1 v2 v3) u v1 v2 v3) ?_ I
  intro c L f_lastEnd f_ready f_victim a_op a_dest a_left a_right a_value a_reg a_mem a_barred a_used a_before a_height a_issuedAt a_order a_source a_early a_sound a_watchedLoad a_watchedAt a_kind a_first a_second a_third F
  unfold wpX_subtract
  refine sw_badReg (fun hv1 => br_t rfl ?_) (fun hv1 => br_f (by decide) ?_)
  · refine sw_badReg (fun hv2 => br_t rfl ?_) (fun hv2 => br_f (by decide) ?_)
    · refine sw_badReg (fun hv3 => br_t rfl ?_) (fun hv3 => br_f (by decide) ?_)
      · refine sw_append F.1 (fun e => ?_) (fun e => ?_)
        · unfold wpY_subtract
          refine sy_isReg (fun _ => br_f (by decide) ?_) (fun z => absurd hv1 z)
          refine sy_isReg (fun _ => br_f (by decide) ?_) (fun z => absurd hv2 z)
          refine sy_isReg (fun _ => br_f (by decide) ?_) (fun z => absurd hv3 z)
          exact sy_append F.1 (fun _ => ⟨rfl, sr_in F⟩) (fun z => absurd e (by omega))
        · unfold wpY_subtract
          refine sy_isReg (fun _ => br_f (by decide) ?_) (fun z => absurd hv1 z)
          refine sy_isReg (fun _ => br_f (by decide) ?_) (fun z => absurd hv2 z)
          refine sy_isReg (fun _ => br_f (by decide) ?_) (fun z => absurd hv3 z)
          exact sy_append F.1 (fun z => absurd e (by omega)) (fun _ => ⟨rfl, sr_in (sx_FA_s F e (Or.inr (Or.inr (Or.inl ⟨rfl, rfl, hv1, hv2, hv3, rfl, rfl, rfl⟩))))⟩)
      · unfold wpY_subtract
        refine sy_isReg (fun _ => br_f (by decide) ?_) (fun z => absurd hv1 z)
        refine sy_isReg (fun _ => br_f (by decide) ?_) (fun z => absurd hv2 z)
        refine sy_isReg (fun z => absurd z hv3) (fun _ => br_t rfl ⟨rfl, sr_in F⟩)
    · unfold wpY_subtract
      refine sy_isReg (fun _ => br_f (by decide) ?_) (fun z => absurd hv1 z)
      refine sy_isReg (fun z => absurd z hv2) (fun _ => br_t rfl ⟨rfl, sr_in F⟩)
  · unfold wpY_subtract
    refine sy_isReg (fun z => absurd z hv1) (fun _ => br_t rfl ⟨rfl, sr_in F⟩)
theorem i_vc_load {k : Nat} {u : SX} {v : SY} (I : i_Rel k u v) (hk : k + 4 ≤ 2048) (v1 : Int32) (v2 : Int32) (v3 : Int32) : wpX_load (fun r u' => wpY_load (fun r' v' => r' = r ∧ i_Rel (k + 4) u' v') v v1 v2 v3) u v1 v2 v3 := by
  refine sr_el (P := fun u v => wpX_load (fun r u' => wpY_load (fun r' v' => r' = r ∧ i_Rel (k + 4) u' v') v v1 v2 v3) u v1 v2 v3) ?_ I
  intro c L f_lastEnd f_ready f_victim a_op a_dest a_left a_right a_value a_reg a_mem a_barred a_used a_before a_height a_issuedAt a_order a_source a_early a_sound a_watchedLoad a_watchedAt a_kind a_first a_second a_third F
  unfold wpX_load
  refine sw_badReg (fun hv1 => br_t rfl ?_) (fun hv1 => br_f (by decide) ?_)
  · refine sw_badReg (fun hv2 => br_t rfl ?_) (fun hv2 => br_f (by decide) ?_)
    · refine br_c (fun hlo => ?_) (fun hlo => br_c (fun hhi => ?_) (fun hhi => ?_))
      · unfold wpY_load
        refine sy_isReg (fun _ => br_f (by decide) ?_) (fun z => absurd hv1 z)
        refine sy_isReg (fun _ => br_f (by decide) ?_) (fun z => absurd hv2 z)
        exact br_t hlo ⟨rfl, sr_in F⟩
      · refine sw_append F.1 (fun e => ?_) (fun e => ?_)
        · unfold wpY_load
          refine sy_isReg (fun _ => br_f (by decide) ?_) (fun z => absurd hv1 z)
          refine sy_isReg (fun _ => br_f (by decide) ?_) (fun z => absurd hv2 z)
          refine br_f hlo ?_
          refine br_t hhi ?_
          exact sy_append F.1 (fun _ => ⟨rfl, sr_in F⟩) (fun z => absurd e (by omega))
        · unfold wpY_load
          refine sy_isReg (fun _ => br_f (by decide) ?_) (fun z => absurd hv1 z)
          refine sy_isReg (fun _ => br_f (by decide) ?_) (fun z => absurd hv2 z)
          refine br_f hlo ?_
          refine br_t hhi ?_
          exact sy_append F.1 (fun z => absurd e (by omega)) (fun _ => ⟨rfl, sr_in (sx_FA_s F e (Or.inr (Or.inr (Or.inr (Or.inl ⟨rfl, rfl, hv1, hv2, rfl, rfl, rfl⟩)))))⟩)
      · unfold wpY_load
        refine sy_isReg (fun _ => br_f (by decide) ?_) (fun z => absurd hv1 z)
        refine sy_isReg (fun _ => br_f (by decide) ?_) (fun z => absurd hv2 z)
        refine br_f hlo ?_
        exact br_f hhi ⟨rfl, sr_in F⟩
    · unfold wpY_load
      refine sy_isReg (fun _ => br_f (by decide) ?_) (fun z => absurd hv1 z)
      refine sy_isReg (fun z => absurd z hv2) (fun _ => br_t rfl ⟨rfl, sr_in F⟩)
  · unfold wpY_load
    refine sy_isReg (fun z => absurd z hv1) (fun _ => br_t rfl ⟨rfl, sr_in F⟩)
theorem i_vc_store {k : Nat} {u : SX} {v : SY} (I : i_Rel k u v) (hk : k + 4 ≤ 2048) (v1 : Int32) (v2 : Int32) (v3 : Int32) : wpX_store (fun r u' => wpY_store (fun r' v' => r' = r ∧ i_Rel (k + 4) u' v') v v1 v2 v3) u v1 v2 v3 := by
  refine sr_el (P := fun u v => wpX_store (fun r u' => wpY_store (fun r' v' => r' = r ∧ i_Rel (k + 4) u' v') v v1 v2 v3) u v1 v2 v3) ?_ I
  intro c L f_lastEnd f_ready f_victim a_op a_dest a_left a_right a_value a_reg a_mem a_barred a_used a_before a_height a_issuedAt a_order a_source a_early a_sound a_watchedLoad a_watchedAt a_kind a_first a_second a_third F
  unfold wpX_store
  refine sw_badReg (fun hv1 => br_t rfl ?_) (fun hv1 => br_f (by decide) ?_)
  · refine sw_badReg (fun hv3 => br_t rfl ?_) (fun hv3 => br_f (by decide) ?_)
    · refine br_c (fun hlo => ?_) (fun hlo => br_c (fun hhi => ?_) (fun hhi => ?_))
      · unfold wpY_store
        refine sy_isReg (fun _ => br_f (by decide) ?_) (fun z => absurd hv1 z)
        refine sy_isReg (fun _ => br_f (by decide) ?_) (fun z => absurd hv3 z)
        exact br_t hlo ⟨rfl, sr_in F⟩
      · refine sw_append F.1 (fun e => ?_) (fun e => ?_)
        · unfold wpY_store
          refine sy_isReg (fun _ => br_f (by decide) ?_) (fun z => absurd hv1 z)
          refine sy_isReg (fun _ => br_f (by decide) ?_) (fun z => absurd hv3 z)
          refine br_f hlo ?_
          refine br_t hhi ?_
          exact sy_append F.1 (fun _ => ⟨rfl, sr_in F⟩) (fun z => absurd e (by omega))
        · unfold wpY_store
          refine sy_isReg (fun _ => br_f (by decide) ?_) (fun z => absurd hv1 z)
          refine sy_isReg (fun _ => br_f (by decide) ?_) (fun z => absurd hv3 z)
          refine br_f hlo ?_
          refine br_t hhi ?_
          exact sy_append F.1 (fun z => absurd e (by omega)) (fun _ => ⟨rfl, sr_in (sx_FA_s F e (Or.inr (Or.inr (Or.inr (Or.inr (Or.inl ⟨rfl, rfl, hv1, hv3, rfl, rfl, rfl⟩))))))⟩)
      · unfold wpY_store
        refine sy_isReg (fun _ => br_f (by decide) ?_) (fun z => absurd hv1 z)
        refine sy_isReg (fun _ => br_f (by decide) ?_) (fun z => absurd hv3 z)
        refine br_f hlo ?_
        exact br_f hhi ⟨rfl, sr_in F⟩
    · unfold wpY_store
      refine sy_isReg (fun _ => br_f (by decide) ?_) (fun z => absurd hv1 z)
      refine sy_isReg (fun z => absurd z hv3) (fun _ => br_t rfl ⟨rfl, sr_in F⟩)
  · unfold wpY_store
    refine sy_isReg (fun z => absurd z hv1) (fun _ => br_t rfl ⟨rfl, sr_in F⟩)
theorem i_vc_leave {k : Nat} {u : SX} {v : SY} (I : i_Rel k u v) (hk : k + 4 ≤ 2048) (v1 : Int32) : wpX_leave (fun r u' => wpY_leave (fun r' v' => r' = r ∧ i_Rel (k + 4) u' v') v v1) u v1 := by
  refine sr_el (P := fun u v => wpX_leave (fun r u' => wpY_leave (fun r' v' => r' = r ∧ i_Rel (k + 4) u' v') v v1) u v1) ?_ I
  intro c L f_lastEnd f_ready f_victim a_op a_dest a_left a_right a_value a_reg a_mem a_barred a_used a_before a_height a_issuedAt a_order a_source a_early a_sound a_watchedLoad a_watchedAt a_kind a_first a_second a_third F
  unfold wpX_leave
  refine sw_badReg (fun hv1 => br_t rfl ?_) (fun hv1 => br_f (by decide) ?_)
  · refine sw_append F.1 (fun e => ?_) (fun e => ?_)
    · unfold wpY_leave
      refine sy_isReg (fun _ => br_f (by decide) ?_) (fun z => absurd hv1 z)
      exact sy_append F.1 (fun _ => ⟨rfl, sr_in F⟩) (fun z => absurd e (by omega))
    · unfold wpY_leave
      refine sy_isReg (fun _ => br_f (by decide) ?_) (fun z => absurd hv1 z)
      exact sy_append F.1 (fun z => absurd e (by omega)) (fun _ => ⟨rfl, sr_in (sx_FA_s F e (Or.inr (Or.inr (Or.inr (Or.inr (Or.inr ⟨rfl, rfl, hv1, rfl⟩))))))⟩)
  · unfold wpY_leave
    refine sy_isReg (fun z => absurd z hv1) (fun _ => br_t rfl ⟨rfl, sr_in F⟩)
theorem i_vc_size {k : Nat} {u : SX} {v : SY} (I : i_Rel k u v) (hk : k + 4 ≤ 2048) : wpX_size (fun r => wpY_size (fun r' => r' = r ∧ i_Rel (k + 4) u v) v) u := by
  refine sr_el (P := fun u v => wpX_size (fun r => wpY_size (fun r' => r' = r ∧ i_Rel (k + 4) u v) v) u) ?_ I
  intro c L f_lastEnd f_ready f_victim a_op a_dest a_left a_right a_value a_reg a_mem a_barred a_used a_before a_height a_issuedAt a_order a_source a_early a_sound a_watchedLoad a_watchedAt a_kind a_first a_second a_third F
  exact ⟨rfl, sr_in F⟩
theorem i_vc_last {k : Nat} {u : SX} {v : SY} (I : i_Rel k u v) (hk : k + 4 ≤ 2048) : wpX_last (fun r => wpY_last (fun r' => r' = r ∧ i_Rel (k + 4) u v) v) u := by
  refine sr_el (P := fun u v => wpX_last (fun r => wpY_last (fun r' => r' = r ∧ i_Rel (k + 4) u v) v) u) ?_ I
  intro c L f_lastEnd f_ready f_victim a_op a_dest a_left a_right a_value a_reg a_mem a_barred a_used a_before a_height a_issuedAt a_order a_source a_early a_sound a_watchedLoad a_watchedAt a_kind a_first a_second a_third F
  exact ⟨rfl, sr_in F⟩
theorem i_vc_clear {k : Nat} {u : SX} {v : SY} (I : i_Rel k u v) (hk : k + 4 ≤ 2048) : wpX_clear (fun u' => wpY_clear (fun v' => i_Rel (k + 4) u' v') v) u := by
  refine sr_el (P := fun u v => wpX_clear (fun u' => wpY_clear (fun v' => i_Rel (k + 4) u' v') v) u) ?_ I
  intro c L f_lastEnd f_ready f_victim a_op a_dest a_left a_right a_value a_reg a_mem a_barred a_used a_before a_height a_issuedAt a_order a_source a_early a_sound a_watchedLoad a_watchedAt a_kind a_first a_second a_third F
  exact Exists.intro 0 (Exists.intro L ⟨rfl, rfl, rfl, rfl, rfl, rfl, rfl, by omega, fun i hi => absurd hi (by omega), fun z => absurd rfl z, F.2.2.2⟩)
theorem i_vc_setRegister {k : Nat} {u : SX} {v : SY} (I : i_Rel k u v) (hk : k + 4 ≤ 2048) (v1 : Int32) (v2 : Int32) : wpX_setRegister (fun r u' => wpY_setRegister (fun r' v' => r' = r ∧ i_Rel (k + 4) u' v') v v1 v2) u v1 v2 := by
  refine sr_el (P := fun u v => wpX_setRegister (fun r u' => wpY_setRegister (fun r' v' => r' = r ∧ i_Rel (k + 4) u' v') v v1 v2) u v1 v2) ?_ I
  intro c L f_lastEnd f_ready f_victim a_op a_dest a_left a_right a_value a_reg a_mem a_barred a_used a_before a_height a_issuedAt a_order a_source a_early a_sound a_watchedLoad a_watchedAt a_kind a_first a_second a_third F
  unfold wpX_setRegister
  refine sw_badReg (fun h => br_t rfl ⟨sx_RG_in h, nm_e ?_⟩) (fun h => br_f (by decide) ?_)
  · unfold wpY_setRegister
    exact sy_isReg (fun _ => br_f (by decide) ⟨sx_RG_in h, nm_e ⟨rfl, sr_in F⟩⟩) (fun z => absurd h z)
  · unfold wpY_setRegister
    exact sy_isReg (fun z => absurd z h) (fun _ => br_t rfl ⟨rfl, sr_in F⟩)
theorem i_vc_register {k : Nat} {u : SX} {v : SY} (I : i_Rel k u v) (hk : k + 4 ≤ 2048) (v1 : Int32) : wpX_register (fun r => wpY_register (fun r' => r' = r ∧ i_Rel (k + 4) u v) v v1) u v1 := by
  refine sr_el (P := fun u v => wpX_register (fun r => wpY_register (fun r' => r' = r ∧ i_Rel (k + 4) u v) v v1) u v1) ?_ I
  intro c L f_lastEnd f_ready f_victim a_op a_dest a_left a_right a_value a_reg a_mem a_barred a_used a_before a_height a_issuedAt a_order a_source a_early a_sound a_watchedLoad a_watchedAt a_kind a_first a_second a_third F
  unfold wpX_register
  refine sw_badReg (fun h => br_t rfl ⟨sx_RG_in h, ?_⟩) (fun h => br_f (by decide) ?_)
  · unfold wpY_register
    exact sy_isReg (fun _ => br_f (by decide) ⟨sx_RG_in h, ⟨rfl, sr_in F⟩⟩) (fun z => absurd h z)
  · unfold wpY_register
    exact sy_isReg (fun z => absurd z h) (fun _ => br_t rfl ⟨rfl, sr_in F⟩)
theorem sr_ab {x : Int32} (h : x < 0 ∨ ¬ x ≤ 15) (a : ¬ x < 0) (b : x ≤ 15) : False := h.elim a (fun z => z b)
theorem i_vc_setWord {k : Nat} {u : SX} {v : SY} (I : i_Rel k u v) (hk : k + 4 ≤ 2048) (v1 : Int32) (v2 : Int32) : wpX_setWord (fun r u' => wpY_setWord (fun r' v' => r' = r ∧ i_Rel (k + 4) u' v') v v1 v2) u v1 v2 := by
  refine sr_el (P := fun u v => wpX_setWord (fun r u' => wpY_setWord (fun r' v' => r' = r ∧ i_Rel (k + 4) u' v') v v1 v2) u v1 v2) ?_ I
  intro c L f_lastEnd f_ready f_victim a_op a_dest a_left a_right a_value a_reg a_mem a_barred a_used a_before a_height a_issuedAt a_order a_source a_early a_sound a_watchedLoad a_watchedAt a_kind a_first a_second a_third F
  unfold wpX_setWord
  refine sw_badAddress (fun a b => br_t rfl ⟨sw_in16 a b, nm_e ?_⟩) (fun h => br_f (by decide) ?_)
  · unfold wpY_setWord
    exact sy_isAdr (fun _ _ => br_f (by decide) ⟨sw_in16 a b, nm_e ⟨rfl, sr_in F⟩⟩) (fun z => absurd (sr_ab z a b) id)
  · unfold wpY_setWord
    exact sy_isAdr (fun a b => absurd (sr_ab h a b) id) (fun _ => br_t rfl ⟨rfl, sr_in F⟩)
theorem i_vc_word {k : Nat} {u : SX} {v : SY} (I : i_Rel k u v) (hk : k + 4 ≤ 2048) (v1 : Int32) : wpX_word (fun r => wpY_word (fun r' => r' = r ∧ i_Rel (k + 4) u v) v v1) u v1 := by
  refine sr_el (P := fun u v => wpX_word (fun r => wpY_word (fun r' => r' = r ∧ i_Rel (k + 4) u v) v v1) u v1) ?_ I
  intro c L f_lastEnd f_ready f_victim a_op a_dest a_left a_right a_value a_reg a_mem a_barred a_used a_before a_height a_issuedAt a_order a_source a_early a_sound a_watchedLoad a_watchedAt a_kind a_first a_second a_third F
  unfold wpX_word
  refine sw_badAddress (fun a b => br_t rfl ⟨sw_in16 a b, ?_⟩) (fun h => br_f (by decide) ?_)
  · unfold wpY_word
    exact sy_isAdr (fun _ _ => br_f (by decide) ⟨sw_in16 a b, ⟨rfl, sr_in F⟩⟩) (fun z => absurd (sr_ab z a b) id)
  · unfold wpY_word
    exact sy_isAdr (fun a b => absurd (sr_ab h a b) id) (fun _ => br_t rfl ⟨rfl, sr_in F⟩)
theorem i_vc_bar {k : Nat} {u : SX} {v : SY} (I : i_Rel k u v) (hk : k + 4 ≤ 2048) (v1 : Int32) (v2 : Int32) : wpX_bar (fun r u' => wpY_bar (fun r' v' => r' = r ∧ i_Rel (k + 4) u' v') v v1 v2) u v1 v2 := by
  refine sr_el (P := fun u v => wpX_bar (fun r u' => wpY_bar (fun r' v' => r' = r ∧ i_Rel (k + 4) u' v') v v1 v2) u v1 v2) ?_ I
  intro c L f_lastEnd f_ready f_victim a_op a_dest a_left a_right a_value a_reg a_mem a_barred a_used a_before a_height a_issuedAt a_order a_source a_early a_sound a_watchedLoad a_watchedAt a_kind a_first a_second a_third F
  unfold wpX_bar
  refine sw_badAddress (fun a b => br_t rfl ⟨sw_in16 a b, br_c (fun e => br_c (fun o => ⟨sw_in16 a b, nm_e ?_⟩) (fun o => ⟨sw_in16 a b, nm_e ?_⟩)) (fun e => br_c (fun o => ⟨sw_in16 a b, nm_e ?_⟩) (fun o => ⟨sw_in16 a b, nm_e ?_⟩))⟩) (fun h => br_f (by decide) ?_)
  · unfold wpY_bar
    exact sy_isAdr (fun _ _ => br_f (by decide) ⟨sw_in16 a b, br_t e (br_t o ⟨sw_in16 a b, nm_e ⟨rfl, sr_in F⟩⟩)⟩) (fun z => absurd (sr_ab z a b) id)
  · unfold wpY_bar
    exact sy_isAdr (fun _ _ => br_f (by decide) ⟨sw_in16 a b, br_t e (br_f o ⟨sw_in16 a b, nm_e ⟨rfl, sr_in F⟩⟩)⟩) (fun z => absurd (sr_ab z a b) id)
  · unfold wpY_bar
    exact sy_isAdr (fun _ _ => br_f (by decide) ⟨sw_in16 a b, br_f e (br_t o ⟨sw_in16 a b, nm_e ⟨rfl, sr_in F⟩⟩)⟩) (fun z => absurd (sr_ab z a b) id)
  · unfold wpY_bar
    exact sy_isAdr (fun _ _ => br_f (by decide) ⟨sw_in16 a b, br_f e (br_f o ⟨sw_in16 a b, nm_e ⟨rfl, sr_in F⟩⟩)⟩) (fun z => absurd (sr_ab z a b) id)
  · unfold wpY_bar
    exact sy_isAdr (fun a b => absurd (sr_ab h a b) id) (fun _ => br_t rfl ⟨rfl, sr_in F⟩)
end
section
/-! run and repeat -/
theorem sx_FA_W {c L : Nat} {ready : Int32} {op d l r v kind fst snd thd ord src : Nat → Int32} (F : sx_FA c L ready op d l r v kind fst snd thd ord src) : ∀ i, i < c → sx_WF (op i) (d i) (l i) (r i) := fun i hi => sx_PR_WF (F.2.1 i hi)
theorem i_vc_run {k : Nat} {u : SX} {v : SY} (I : i_Rel k u v) (hk : k + 4 ≤ 2048) : wpX_run (fun r u' => wpY_run (fun r' v' => r' = r ∧ i_Rel (k + 4) u' v') v) u := by
  refine sr_el (P := fun u v => wpX_run (fun r u' => wpY_run (fun r' v' => r' = r ∧ i_Rel (k + 4) u' v') v) u) ?_ I
  intro c L f_lastEnd f_ready f_victim a_op a_dest a_left a_right a_value a_reg a_mem a_barred a_used a_before a_height a_issuedAt a_order a_source a_early a_sound a_watchedLoad a_watchedAt a_kind a_first a_second a_third F
  obtain ⟨f, O⟩ := sx_Out_ex c a_op a_dest a_left a_right a_value a_barred a_reg a_mem
  refine sw_run F.1 (sx_FA_W F) F.2.2.2 F.2.2.1 O (fun ready L' vic used bef hgt iss ord src ear snd wl wa hS hs => ?_)
  exact sy_run F.1 F.2.1 O ⟨rfl, sr_in ⟨F.1, F.2.1, fun _ => hS, hs⟩⟩
theorem sr_rep {k t : Nat} (ht : t ≤ 8) {G : (Int32 → SY → Prop) → Prop} : ∀ (d i : Nat), i + d = t → ∀ (c L : Nat) (f_lastEnd f_ready f_victim : Int32) (a_op a_dest a_left a_right a_value a_reg a_mem a_barred a_used a_before a_height a_issuedAt a_order a_source a_early a_sound a_watchedLoad a_watchedAt a_kind a_first a_second a_third : Nat → Int32),
      sx_FA c L f_ready a_op a_dest a_left a_right a_value a_kind a_first a_second a_third a_order a_source →
      (∀ Q : Int32 → SY → Prop, (∃ m, wY_repeat_26 Q (nI t) m (nI i) 0 (nI c) f_lastEnd a_kind a_first a_second a_third a_reg a_mem a_barred) → G Q) →
      wX_repeat_25 (fun r u' => G (fun r' v' => r' = r ∧ i_Rel k u' v')) (nI t) (d + 1) (nI i) 1 (nI i) (nI c) f_lastEnd f_ready (nI L) f_victim a_op a_dest a_left a_right a_value a_reg a_mem a_barred a_used a_before a_height a_issuedAt a_order a_source a_early a_sound a_watchedLoad a_watchedAt := by
  intro d
  induction d with
  | zero =>
    intro i hi c L f_lastEnd f_ready f_victim a_op a_dest a_left a_right a_value a_reg a_mem a_barred a_used a_before a_height a_issuedAt a_order a_source a_early a_sound a_watchedLoad a_watchedAt a_kind a_first a_second a_third F hY
    have z : nI t ≤ nI i := nI_le (by omega) (by omega)
    exact br_t z (hY _ ⟨1, br_t z ⟨rfl, sr_in F⟩⟩)
  | succ d ih =>
    intro i hi c L f_lastEnd f_ready f_victim a_op a_dest a_left a_right a_value a_reg a_mem a_barred a_used a_before a_height a_issuedAt a_order a_source a_early a_sound a_watchedLoad a_watchedAt a_kind a_first a_second a_third F hY
    have z : ¬ nI t ≤ nI i := nI_ge (by omega) (by omega)
    obtain ⟨f, O⟩ := sx_Out_ex c a_op a_dest a_left a_right a_value a_barred a_reg a_mem
    have hY' : ∀ (Q : Int32 → SY → Prop) (x4 : Int32), x4 = sx_res c f a_op a_dest a_left a_right a_value a_barred a_reg a_mem → (∃ m, wY_repeat_26 Q (nI t) m (nI (i + 1)) x4 (nI c) (sx_res c f a_op a_dest a_left a_right a_value a_barred a_reg a_mem) a_kind a_first a_second a_third ((sx_T a_op a_dest a_left a_right a_value a_barred a_reg a_mem f).1) ((sx_T a_op a_dest a_left a_right a_value a_barred a_reg a_mem f).2) a_barred) → G Q := by
      intro Q x4 ex hm
      obtain ⟨m, hm⟩ := hm
      subst ex
      exact hY Q ⟨m + 1, br_f z (br_t rfl (sy_run F.1 F.2.1 O (nm_r (nI_1 i) hm)))⟩
    refine br_f z (br_f (by decide) ?_)
    refine sw_run F.1 (sx_FA_W F) F.2.2.2 F.2.2.1 O (fun ready L' vic used bef hgt iss ord src ear snd wl wa hS hs => nm_r (nI_1 i) ?_)
    have F' : sx_FA c L' ready a_op a_dest a_left a_right a_value a_kind a_first a_second a_third ord src := ⟨F.1, F.2.1, fun _ => hS, hs⟩
    refine br_c (fun e => nm_r (nI_1 i) ?_) (fun e => nm_r (nI_1 i) ?_)
    · exact ih (i + 1) (by omega) c L' _ _ _ _ _ _ _ _ _ _ _ _ _ _ _ _ _ _ _ _ _ _ _ _ _ F' (fun Q hm => hY' Q 0 e.symm hm)
    · have g := hY' (fun r' v' => r' = nI (i + 1) ∧ i_Rel k (nI c, sx_res c f a_op a_dest a_left a_right a_value a_barred a_reg a_mem, ready, nI L', vic, a_op, a_dest, a_left, a_right, a_value, (sx_T a_op a_dest a_left a_right a_value a_barred a_reg a_mem f).1, (sx_T a_op a_dest a_left a_right a_value a_barred a_reg a_mem f).2, a_barred, used, bef, hgt, iss, ord, src, ear, snd, wl, wa) v') _ rfl ⟨1, br_c (fun _ => ⟨rfl, sr_in F'⟩) (fun _ => br_f e ⟨rfl, sr_in F'⟩)⟩
      exact br_c (fun _ => g) (fun _ => br_t rfl g)
theorem i_vc_repeat {k : Nat} {u : SX} {v : SY} (I : i_Rel k u v) (hk : k + 4 ≤ 2048) (v1 : Int32) : wpX_repeat (fun r u' => wpY_repeat (fun r' v' => r' = r ∧ i_Rel (k + 4) u' v') v v1) u v1 := by
  refine sr_el (P := fun u v => wpX_repeat (fun r u' => wpY_repeat (fun r' v' => r' = r ∧ i_Rel (k + 4) u' v') v v1) u v1) ?_ I
  intro c L f_lastEnd f_ready f_victim a_op a_dest a_left a_right a_value a_reg a_mem a_barred a_used a_before a_height a_issuedAt a_order a_source a_early a_sound a_watchedLoad a_watchedAt a_kind a_first a_second a_third F
  by_cases h0 : 0 ≤ v1
  · by_cases h8 : v1 ≤ 8
    · obtain ⟨t, ht, e⟩ := nI_of2 (M := 8) (n := 8) (by decide) (Int32.not_lt.mpr h0) h8
      subst e
      exact br_t h0 (br_t h8 ⟨t + 1, sr_rep ht (G := fun Q => wpY_repeat Q (nI c, f_lastEnd, a_kind, a_first, a_second, a_third, a_reg, a_mem, a_barred) (nI t)) t 0 (by omega) c L _ _ _ _ _ _ _ _ _ _ _ _ _ _ _ _ _ _ _ _ _ _ _ _ _ F (fun Q hm => br_t h0 (br_t h8 hm))⟩)
    · exact br_t h0 (br_f h8 ⟨9, sr_rep (t := 8) (Nat.le_refl _) (G := fun Q => wpY_repeat Q (nI c, f_lastEnd, a_kind, a_first, a_second, a_third, a_reg, a_mem, a_barred) v1) 8 0 (by omega) c L _ _ _ _ _ _ _ _ _ _ _ _ _ _ _ _ _ _ _ _ _ _ _ _ _ F (fun Q hm => br_t h0 (br_f h8 hm))⟩)
  · exact br_f h0 (br_t (by decide) ⟨1, sr_rep (t := 0) (by omega) (G := fun Q => wpY_repeat Q (nI c, f_lastEnd, a_kind, a_first, a_second, a_third, a_reg, a_mem, a_barred) v1) 0 0 (by omega) c L _ _ _ _ _ _ _ _ _ _ _ _ _ _ _ _ _ _ _ _ _ _ _ _ _ F (fun Q hm => br_f h0 hm)⟩)
end
