section
theorem pk_us {f : Nat → Int32} {k : Nat} {x : Int32} : upd f k x k = x := if_pos rfl
theorem pk_un {f : Nat → Int32} {k j : Nat} {x : Int32} (h : j ≠ k) : upd f k x j = f j := if_neg h
theorem pk_sub {a b : Nat} (h : b ≤ a) : nI a - nI b = nI (a - b) := by
  obtain ⟨c, rfl⟩ : ∃ c, a = c + b := ⟨a - b, by omega⟩
  rw [← nI_add, Int32.add_sub_cancel, Nat.add_sub_cancel]
theorem pk_m1 (n : Nat) : nI (n + 1) + (-1) = nI n := by
  rw [← nI_1, Int32.add_assoc, show (1 : Int32) + (-1) = 0 from rfl, Int32.add_zero]
theorem pk_mul (a b : Nat) : nI a * nI b = nI (a * b) := (Int32.ofNat_mul a b).symm
theorem pk_div {a d : Nat} (ha : a < 2 ^ 31) (h0 : 0 < d) (hd : d < 2 ^ 31) : nI a / nI d = nI (a / d) := by
  apply Int32.toInt_inj.mp
  rw [lg_idiv_nonneg (by rw [nI_toInt ha]; omega) (by rw [nI_toInt hd]; omega), nI_toInt ha, nI_toInt hd, nI_toInt (Nat.lt_of_le_of_lt (Nat.div_le_self a d) ha)]
  first | rfl | exact (Int.natCast_ediv _ _).symm
theorem pk_rem {a d : Nat} (ha : a < 2 ^ 31) (h0 : 0 < d) (hd : d < 2 ^ 31) : nI a - nI a / nI d * nI d = nI (a % d) := by
  rw [pk_div ha h0 hd, pk_mul, pk_sub (Nat.div_mul_le_self a d)]
  exact congrArg nI (by have := Nat.div_add_mod' a d; omega)
theorem pk_sub_toInt {a b : Nat} (ha : a < 2 ^ 30) (hb : b < 2 ^ 30) : (nI a - nI b).toInt = (a : Int) - b := by
  rw [Int32.toInt_sub, nI_toInt (by omega), nI_toInt (by omega)]
  exact Int.bmod_eq_of_le (by omega) (by omega)
theorem pk_sneg {a b : Nat} (hb : b < 2 ^ 30) (h : a < b) : nI a - nI b < 0 := by
  rw [Int32.lt_iff_toInt_lt, pk_sub_toInt (by omega) hb, show (0 : Int32).toInt = 0 from by decide]
  omega
theorem pk_ix (x : Int32) {n : Nat} (hn : n < 2 ^ 31) : x < 0 ∨ nI n ≤ x ∨ ∃ j : Nat, j < n ∧ x = nI j := by
  by_cases h : x < 0
  · exact Or.inl h
  · obtain ⟨j, hj, rfl⟩ := nI_of h
    by_cases h2 : j < n
    · exact Or.inr (Or.inr ⟨j, h2, rfl⟩)
    · exact Or.inr (Or.inl (nI_le (by omega) hj))
theorem pk_le {x y : Int32} {A B : Prop} (a b : Nat) (f : a ≤ b → A) (g : b < a → B) (hx : x = nI a := by rfl) (hy : y = nI b := by rfl) (ha : a < 2 ^ 31 := by omega) (hb : b < 2 ^ 31 := by omega) : (x ≤ y → A) ∧ (¬ x ≤ y → B) := by
  subst hx hy
  rw [nI_leI ha hb]
  exact ⟨f, fun z => g (by omega)⟩
theorem pk_lt {x y : Int32} {A B : Prop} (a b : Nat) (f : a < b → A) (g : b ≤ a → B) (hx : x = nI a := by rfl) (hy : y = nI b := by rfl) (ha : a < 2 ^ 31 := by omega) (hb : b < 2 ^ 31 := by omega) : (x < y → A) ∧ (¬ x < y → B) := by
  subst hx hy
  rw [nI_ltI ha hb]
  exact ⟨f, fun z => g (by omega)⟩
theorem pk_eq {x y : Int32} {A B : Prop} (a b : Nat) (f : a = b → A) (g : a ≠ b → B) (hx : x = nI a := by rfl) (hy : y = nI b := by rfl) (ha : a < 2 ^ 31 := by omega) (hb : b < 2 ^ 31 := by omega) : (x = y → A) ∧ (¬ x = y → B) := by
  subst hx hy
  rw [nI_eq ha hb]
  exact ⟨f, g⟩
theorem pk_in {x : Int32} (n N : Nat) (h : n < N) (hx : x = nI n := by rfl) (hN : N < 2 ^ 31 := by omega) : vp_in x N := by
  subst hx
  exact vp_in_nI h hN
theorem pk_cl {x : Int32} (n : Nat) (hx : x = nI n := by rfl) (h : n < 2 ^ 31 := by omega) : x.toNatClampNeg = n := by
  subst hx
  exact nI_clamp h
theorem pk_tn {n : Nat} (h : n < 2 ^ 32) : (nI n).toBitVec.toNat = n := Nat.mod_eq_of_lt h
def bt (x : Int32) (i : Nat) : Bool := x.toBitVec.getLsbD i
theorem b_ext {x y : Int32} (h : ∀ i, i < 32 → bt x i = bt y i) : x = y := Int32.toBitVec_inj.mp (BitVec.eq_of_getLsbD_eq (fun i hi => h i hi))
theorem b_and (x y : Int32) (i : Nat) : bt (x &&& y) i = (bt x i && bt y i) := by unfold bt; rw [Int32.toBitVec_and, BitVec.getLsbD_and]
theorem b_xor (x y : Int32) (i : Nat) : bt (x ^^^ y) i = (bt x i ^^ bt y i) := by unfold bt; rw [Int32.toBitVec_xor, BitVec.getLsbD_xor]
theorem b_big {x : Int32} {i : Nat} (h : 32 ≤ i) : bt x i = false := BitVec.getLsbD_of_ge _ _ h
theorem b_0 (i : Nat) : bt 0 i = false := BitVec.getLsbD_zero
theorem s_l : ∀ n, n < 32 → ((nI n &&& 31).toBitVec.smod 32).toNat = n := by decide +kernel
theorem b_shl (n : Nat) (hn : n < 32) (x : Int32) {i : Nat} (hi : i < 32) : bt (x <<< (nI n &&& 31)) i = (decide (n ≤ i) && bt x (i - n)) := by
  unfold bt
  rw [Int32.toBitVec_shiftLeft]
  show (x.toBitVec <<< ((nI n &&& 31).toBitVec.smod 32).toNat).getLsbD i = _
  rw [s_l n hn, BitVec.getLsbD_shiftLeft]
  rcases Nat.lt_or_ge i n with h | h
  · simp [h, Nat.not_le.mpr h]
  · simp [hi, h, Nat.not_lt.mpr h]
theorem b_sshr (n : Nat) (hn : n < 32) (x : Int32) {i : Nat} (hi : i < 32) : bt (x >>> (nI n &&& 31)) i = if n + i < 32 then bt x (n + i) else bt x 31 := by
  unfold bt
  rw [Int32.toBitVec_shiftRight]
  show (x.toBitVec.sshiftRight ((nI n &&& 31).toBitVec.smod 32).toNat).getLsbD i = _
  rw [s_l n hn, BitVec.getLsbD_sshiftRight, BitVec.msb_eq_getLsbD_last]
  simp [hi]
theorem sb_negT {w : Nat} (h : w < 2 ^ 31) : (-nI w).toInt = -(w : Int) := by
  rw [Int32.toInt_neg, nI_toInt h]
  exact Int.bmod_eq_of_le (by omega) (by omega)
end
section
/-! ints of any sign, the xor of a range and of a list, the front polygon -/
theorem sh_add {a b : Int32} {x y : Int} (ha : a.toInt = x) (hb : b.toInt = y) (h1 : -2147483648 ≤ x + y) (h2 : x + y < 2147483648) : (a + b).toInt = x + y := by
  subst ha hb
  exact Jvm.Kit.i32_add (by omega) (by omega)
theorem sh_sub {a b : Int32} {x y : Int} (ha : a.toInt = x) (hb : b.toInt = y) (h1 : -2147483648 ≤ x - y) (h2 : x - y < 2147483648) : (a - b).toInt = x - y := by
  subst ha hb
  exact Jvm.Kit.i32_sub (by omega) (by omega)
theorem sh_mul {a b : Int32} {x y : Int} (ha : a.toInt = x) (hb : b.toInt = y) (h1 : -2147483648 ≤ x * y) (h2 : x * y < 2147483648) : (a * b).toInt = x * y := by
  subst ha hb
  exact Jvm.Kit.i32_mul (by omega) (by omega)
theorem sh_mbd {x y : Int} (A B : Nat) (hx1 : -(A : Int) ≤ x) (hx2 : x ≤ A) (hy1 : -(B : Int) ≤ y) (hy2 : y ≤ B) : -((A * B : Nat) : Int) ≤ x * y ∧ x * y ≤ ((A * B : Nat) : Int) := by
  have h : (x * y).natAbs ≤ A * B := by
    rw [Int.natAbs_mul]
    exact Nat.mul_le_mul (by omega) (by omega)
  generalize x * y = z at *
  generalize A * B = C at *
  omega
theorem sh_eqI {a : Int32} {n : Nat} (h : a.toInt = n) (hn : n < 2 ^ 31) : a = nI n := Int32.toInt_inj.mp (by rw [h, nI_toInt hn])
theorem sh_2n (i : Nat) : 2 * nI i = nI (2 * i) := pk_mul 2 i
theorem sh_2i (i : Nat) : 2 * nI i + 1 = nI (2 * i + 1) := by
  rw [sh_2n, nI_1]
theorem sh_8n (i : Nat) : 8 * nI i = nI (8 * i) := pk_mul 8 i
theorem sh_24n (i : Nat) : 24 * nI i = nI (24 * i) := pk_mul 24 i
theorem sh_8k (p k : Nat) : 8 * nI p + nI k = nI (8 * p + k) := by
  rw [sh_8n, nI_add]
theorem sh_24k (p k : Nat) : 24 * nI p + nI k = nI (24 * p + k) := by
  rw [sh_24n, nI_add]
def sh_cl (a : Nat → Int32) (e : Nat) : Nat := (a e).toNatClampNeg
theorem sh_clE {a : Nat → Int32} {e n : Nat} (h : a e = nI n) (hn : n < 2 ^ 31) : sh_cl a e = n := by
  unfold sh_cl
  rw [h, nI_clamp hn]
def sh_b (b : Bool) : Int32 := match b with
  | true => 1
  | false => 0
theorem sh_bn (b : Bool) : narrow .boolean (.int (sh_b b)) = .int (sh_b b) := by
  cases b
  · rfl
  · rfl
theorem sh_b0 (b : Bool) : sh_b b = 0 ↔ b = false := by
  cases b <;> simp [sh_b]
/-! the xor over a range -/
def sh_xs (f : Nat → Bool) : Nat → Bool
  | 0 => false
  | n + 1 => sh_xs f n ^^ f n
theorem sh_xs_s (f : Nat → Bool) (n : Nat) : sh_xs f (n + 1) = (sh_xs f n ^^ f n) := rfl
theorem sh_xs_congr {f g : Nat → Bool} : ∀ n, (∀ k, k < n → f k = g k) → sh_xs f n = sh_xs g n := by
  intro n
  induction n with
  | zero => intro _; rfl
  | succ n ih =>
    intro h
    rw [sh_xs_s, sh_xs_s, ih (fun k hk => h k (by omega)), h n (by omega)]
theorem sh_xs_xor (f g : Nat → Bool) : ∀ n, sh_xs (fun k => f k ^^ g k) n = (sh_xs f n ^^ sh_xs g n) := by
  intro n
  induction n with
  | zero => rfl
  | succ n ih =>
    rw [sh_xs_s, sh_xs_s, sh_xs_s, ih]
    cases sh_xs f n <;> cases sh_xs g n <;> cases f n <;> cases g n <;> rfl
theorem sh_xs_0 {f : Nat → Bool} : ∀ n, (∀ k, k < n → f k = false) → sh_xs f n = false := by
  intro n
  induction n with
  | zero => intro _; rfl
  | succ n ih =>
    intro h
    rw [sh_xs_s, ih (fun k hk => h k (by omega)), h n (by omega)]
    rfl
theorem sh_xs_one (a : Nat) (b : Bool) : ∀ n, a < n → sh_xs (fun k => decide (k = a) && b) n = b := by
  intro n
  induction n with
  | zero => intro h; omega
  | succ n ih =>
    intro h
    rw [sh_xs_s]
    by_cases e : n = a
    · subst e
      rw [sh_xs_0 n (fun k hk => by rw [decide_eq_false (by omega)]; rfl), decide_eq_true rfl]
      cases b <;> rfl
    · rw [ih (by omega), decide_eq_false e]
      cases b <;> rfl
theorem sh_xs_add (f : Nat → Bool) (a : Nat) : ∀ b, sh_xs f (a + b) = (sh_xs f a ^^ sh_xs (fun k => f (a + k)) b) := by
  intro b
  induction b with
  | zero => cases h : sh_xs f a <;> simp [h, sh_xs]
  | succ b ih =>
    rw [← Nat.add_assoc, sh_xs_s, sh_xs_s, ih, Bool.xor_assoc]
/-! the xor over a list -/
def sh_xl (f : Nat → Bool) : List Nat → Bool
  | [] => false
  | e :: l => f e ^^ sh_xl f l
theorem sh_xl_c (f : Nat → Bool) (e : Nat) (l : List Nat) : sh_xl f (e :: l) = (f e ^^ sh_xl f l) := rfl
theorem sh_xl_app (f : Nat → Bool) (l m : List Nat) : sh_xl f (l ++ m) = (sh_xl f l ^^ sh_xl f m) := by
  induction l with
  | nil => cases h : sh_xl f m <;> simp [h, sh_xl]
  | cons e l ih => rw [List.cons_append, sh_xl_c, sh_xl_c, ih, Bool.xor_assoc]
theorem sh_xl_congr {f g : Nat → Bool} (l : List Nat) : (∀ e, e ∈ l → f e = g e) → sh_xl f l = sh_xl g l := by
  induction l with
  | nil => intro _; rfl
  | cons e l ih =>
    intro h
    rw [sh_xl_c, sh_xl_c, ih (fun x hx => h x (List.mem_cons_of_mem _ hx)), h e List.mem_cons_self]
theorem sh_xl_xor (f g : Nat → Bool) (l : List Nat) : sh_xl (fun e => f e ^^ g e) l = (sh_xl f l ^^ sh_xl g l) := by
  induction l with
  | nil => rfl
  | cons e l ih =>
    rw [sh_xl_c, sh_xl_c, sh_xl_c, ih]
    cases sh_xl f l <;> cases sh_xl g l <;> cases f e <;> cases g e <;> rfl
theorem sh_xl_nd (f : Nat → Bool) (N : Nat) (l : List Nat) : l.Nodup → (∀ e, e ∈ l → e < N) → sh_xl f l = sh_xs (fun e => decide (e ∈ l) && f e) N := by
  induction l with
  | nil =>
    intro _ _
    exact (sh_xs_0 N (fun k _ => by simp)).symm
  | cons a l ih =>
    intro hn hm
    obtain ⟨h1, h2⟩ := List.nodup_cons.mp hn
    have e1 : sh_xs (fun e => decide (e ∈ a :: l) && f e) N = sh_xs (fun e => (decide (e = a) && f a) ^^ (decide (e ∈ l) && f e)) N := by
      refine sh_xs_congr N (fun k _ => ?_)
      by_cases e : k = a
      · subst e
        simp [h1]
      · simp [e]
    rw [sh_xl_c, ih h2 (fun x hx => hm x (List.mem_cons_of_mem _ hx)), e1, sh_xs_xor, sh_xs_one a (f a) N (hm a List.mem_cons_self)]
/-- different numbers below N are at most N -/
theorem sh_nd_len {l : List Nat} {N : Nat} (h : l.Nodup) (hm : ∀ e, e ∈ l → e < N) : l.length ≤ N := by
  have := List.Nodup.length_le_of_subset (l₂ := List.range N) h (fun e he => List.mem_range.mpr (hm e he))
  rwa [List.length_range] at this
/-! a count over a range -/
def sh_cn (f : Nat → Bool) : Nat → Nat
  | 0 => 0
  | n + 1 => sh_cn f n + (if f n = true then 1 else 0)
theorem sh_cn_t {f : Nat → Bool} {n : Nat} (h : f n = true) : sh_cn f (n + 1) = sh_cn f n + 1 := by
  show sh_cn f n + (if f n = true then 1 else 0) = _
  rw [if_pos h]
theorem sh_cn_f {f : Nat → Bool} {n : Nat} (h : f n = false) : sh_cn f (n + 1) = sh_cn f n := by
  show sh_cn f n + (if f n = true then 1 else 0) = _
  rw [if_neg (by rw [h]; exact Bool.false_ne_true)]
  rfl
theorem sh_cn_le (f : Nat → Bool) (n : Nat) : sh_cn f n ≤ n := by
  induction n with
  | zero => exact Nat.le_refl 0
  | succ n ih =>
    show sh_cn f n + (if f n = true then 1 else 0) ≤ n + 1
    split <;> omega
/-! the front polygon -/
def sh_fr (c : Nat → Bool) (d : Nat → Int) : Nat → Option Nat
  | 0 => none
  | n + 1 => if c n = true then (match sh_fr c d n with
    | none => some n
    | some b => if d n < d b then some n else some b) else sh_fr c d n
theorem sh_fr_0 {c : Nat → Bool} {d : Nat → Int} {n : Nat} (h : c n = false) : sh_fr c d (n + 1) = sh_fr c d n := by
  rw [sh_fr, if_neg (by rw [h]; exact Bool.false_ne_true)]
theorem sh_fr_1 {c : Nat → Bool} {d : Nat → Int} {n : Nat} (h : c n = true) (hn : sh_fr c d n = none) : sh_fr c d (n + 1) = some n := by
  rw [sh_fr, if_pos h, hn]
theorem sh_fr_2 {c : Nat → Bool} {d : Nat → Int} {n b : Nat} (h : c n = true) (hn : sh_fr c d n = some b) (hd : d n < d b) : sh_fr c d (n + 1) = some n := by
  rw [sh_fr, if_pos h, hn]
  exact if_pos hd
theorem sh_fr_3 {c : Nat → Bool} {d : Nat → Int} {n b : Nat} (h : c n = true) (hn : sh_fr c d n = some b) (hd : ¬ d n < d b) : sh_fr c d (n + 1) = some b := by
  rw [sh_fr, if_pos h, hn]
  exact if_neg hd
def sh_Is (c : Nat → Bool) (d : Nat → Int) (n p : Nat) : Prop :=
  p < n ∧ c p = true ∧ ∀ q, q < n → c q = true → (q < p → d p < d q) ∧ (p < q → d p ≤ d q)
theorem sh_fr_n {c : Nat → Bool} {d : Nat → Int} {n : Nat} (h : sh_fr c d n = none) : ∀ q, q < n → c q = false := by
  induction n with
  | zero => intro q hq; omega
  | succ n ih =>
    by_cases hc : c n = true
    · cases hf : sh_fr c d n with
      | none => rw [sh_fr_1 hc hf] at h; exact nomatch h
      | some b =>
        by_cases hd : d n < d b
        · rw [sh_fr_2 hc hf hd] at h; exact nomatch h
        · rw [sh_fr_3 hc hf hd] at h; exact nomatch h
    · have hc' : c n = false := by simpa using hc
      rw [sh_fr_0 hc'] at h
      intro q hq
      by_cases e : q = n
      · rw [e]; exact hc'
      · exact ih h q (by omega)
theorem sh_fr_is {c : Nat → Bool} {d : Nat → Int} {n : Nat} : ∀ {p : Nat}, sh_fr c d n = some p → sh_Is c d n p := by
  induction n with
  | zero => intro p h; exact nomatch h
  | succ n ih =>
    intro p h
    by_cases hc : c n = true
    · cases hf : sh_fr c d n with
      | none =>
        rw [sh_fr_1 hc hf] at h
        cases h
        refine ⟨by omega, hc, fun q hq hcq => ?_⟩
        by_cases e : q = n
        · subst e
          exact ⟨fun z => by omega, fun z => by omega⟩
        · rw [sh_fr_n hf q (by omega)] at hcq
          exact nomatch hcq
      | some b =>
        obtain ⟨hb, hcb, hq⟩ := ih hf
        by_cases hd : d n < d b
        · rw [sh_fr_2 hc hf hd] at h
          cases h
          refine ⟨by omega, hc, fun q hqn hcq => ⟨fun z => ?_, fun z => by omega⟩⟩
          have h3 := hq q z hcq
          rcases Nat.lt_trichotomy q b with h4 | h4 | h4
          · have := h3.1 h4; omega
          · subst h4; omega
          · have := h3.2 h4; omega
        · rw [sh_fr_3 hc hf hd] at h
          cases h
          refine ⟨by omega, hcb, fun q hqn hcq => ?_⟩
          by_cases e : q = n
          · subst e
            exact ⟨fun z => by omega, fun z => by omega⟩
          · exact hq q (by omega) hcq
    · have hc' : c n = false := by simpa using hc
      rw [sh_fr_0 hc'] at h
      obtain ⟨hb, hcb, hq⟩ := ih h
      refine ⟨by omega, hcb, fun q hqn hcq => ?_⟩
      by_cases e : q = n
      · rw [e, hc'] at hcq
        exact nomatch hcq
      · exact hq q (by omega) hcq
theorem sh_fr_of {c : Nat → Bool} {d : Nat → Int} {n p : Nat} (h : sh_Is c d n p) : sh_fr c d n = some p := by
  obtain ⟨h1, h2, h3⟩ := h
  cases hf : sh_fr c d n with
  | none =>
    rw [sh_fr_n hf p h1] at h2
    exact nomatch h2
  | some b =>
    obtain ⟨k1, k2, k3⟩ := sh_fr_is hf
    have a1 := h3 b k1 k2
    have a2 := k3 p h1 h2
    rcases Nat.lt_trichotomy b p with h4 | h4 | h4
    · have := a1.1 h4
      have := a2.2 h4
      omega
    · rw [h4]
    · have := a1.2 h4
      have := a2.1 h4
      omega
theorem sh_fr_congr {c c' : Nat → Bool} {d d' : Nat → Int} : ∀ n, (∀ q, q < n → c q = c' q) → (∀ q, q < n → d q = d' q) → sh_fr c d n = sh_fr c' d' n := by
  intro n
  induction n with
  | zero => intro _ _; rfl
  | succ n ih =>
    intro hc hd
    have e := ih (fun q hq => hc q (by omega)) (fun q hq => hd q (by omega))
    have hcn := hc n (by omega)
    by_cases h : c n = true
    · have h' : c' n = true := by rw [← hcn]; exact h
      cases hf : sh_fr c d n with
      | none => rw [sh_fr_1 h hf, sh_fr_1 h' (by rw [← e]; exact hf)]
      | some b =>
        have hb := (sh_fr_is hf).1
        have hf' : sh_fr c' d' n = some b := by rw [← e]; exact hf
        have e1 := hd n (by omega)
        have e2 := hd b (by omega)
        by_cases hl : d n < d b
        · rw [sh_fr_2 h hf hl, sh_fr_2 h' hf' (by omega)]
        · rw [sh_fr_3 h hf hl, sh_fr_3 h' hf' (by omega)]
    · have h1 : c n = false := by simpa using h
      have h2 : c' n = false := by rw [← hcn]; exact h1
      rw [sh_fr_0 h1, sh_fr_0 h2, e]
def sh_en (o : Option Nat) : Int32 := match o with
  | none => -2
  | some p => nI p
theorem sh_en_n {o : Option Nat} {n : Nat} (ho : ∀ p, o = some p → p < n) (hn : n < 2 ^ 31) : sh_en o = -2 ↔ o = none := by
  cases o with
  | none => exact ⟨fun _ => rfl, fun _ => rfl⟩
  | some p =>
    refine ⟨fun h => ?_, fun h => nomatch h⟩
    have h1 : nI p = -2 := h
    have h2 := congrArg Int32.toInt h1
    rw [nI_toInt (by have := ho p rfl; omega), show (-2 : Int32).toInt = -2 from by decide] at h2
    omega
theorem sh_en_0 {o : Option Nat} {n : Nat} (ho : ∀ p, o = some p → p < n) (hn : n < 2 ^ 31) : sh_en o < 0 ↔ o = none := by
  cases o with
  | none => exact ⟨fun _ => rfl, fun _ => by show (-2 : Int32) < 0; decide⟩
  | some p =>
    exact ⟨fun h => absurd h (nI_pos (by have := ho p rfl; omega)), fun h => nomatch h⟩
theorem sh_en_le {o : Option Nat} {n : Nat} (ho : ∀ p, o = some p → p < n) (hn : n < 2 ^ 31) : 0 ≤ sh_en o ↔ ¬ o = none := by
  rw [← sh_en_0 ho hn]
  exact ⟨fun h => Int32.not_lt.mpr h, fun h => Int32.not_lt.mp h⟩
end
section
/-! the edges: the reference's test, the column as a quotient -/
def sh_lf (x1 y1 x2 y2 px py : Int32) : Bool :=
  ((!decide (py ≤ 2 * y1) && !decide (2 * y2 ≤ py)) && decide ((((2 * x1) - px) * (y2 - y1)) + ((py - (2 * y1)) * (x2 - x1)) ≤ 0)) ||
  ((!decide (py ≤ 2 * y2) && !decide (2 * y1 ≤ py)) && !decide ((((2 * x1) - px) * (y2 - y1)) + ((py - (2 * y1)) * (x2 - x1)) < 0))
def sh_to (sz : Nat → Int32) (e : Nat) : Nat := 8 * (e / 8) + (if e % 8 + 1 < sh_cl sz (e / 8) then e % 8 + 1 else 0)
def sh_le (xs ys sz : Nat → Int32) (e i j : Nat) : Bool := sh_lf (xs e) (ys e) (xs (sh_to sz e)) (ys (sh_to sz e)) (2 * nI i + 1) (2 * nI j + 1)
def sh_cov (xs ys sz : Nat → Int32) (p i j : Nat) : Bool := sh_xs (fun k => sh_le xs ys sz (8 * p + k) i j) (sh_cl sz p)
def sh_E (cnt : Nat) (ys sz : Nat → Int32) (e : Nat) : Bool := decide (e / 8 < cnt ∧ e % 8 < sh_cl sz (e / 8) ∧ sh_cl ys e ≠ sh_cl ys (sh_to sz e))
def sh_tp (ys sz : Nat → Int32) (e : Nat) : Nat := if sh_cl ys e < sh_cl ys (sh_to sz e) then e else sh_to sz e
def sh_lo (ys sz : Nat → Int32) (e : Nat) : Nat := if sh_cl ys e < sh_cl ys (sh_to sz e) then sh_to sz e else e
def sh_yt (ys sz : Nat → Int32) (e : Nat) : Nat := sh_cl ys (sh_tp ys sz e)
def sh_yb (ys sz : Nat → Int32) (e : Nat) : Nat := sh_cl ys (sh_lo ys sz e)
def sh_xt (xs ys sz : Nat → Int32) (e : Nat) : Nat := sh_cl xs (sh_tp ys sz e)
def sh_xb (xs ys sz : Nat → Int32) (e : Nat) : Nat := sh_cl xs (sh_lo ys sz e)
def sh_Ok (cnt : Nat) (xs ys sz : Nat → Int32) : Prop := cnt ≤ 6 ∧ ∀ p, p < cnt → sz p = nI (sh_cl sz p) ∧ sh_cl sz p ≤ 8 ∧
  ∀ k, k < sh_cl sz p → xs (8 * p + k) = nI (sh_cl xs (8 * p + k)) ∧ sh_cl xs (8 * p + k) ≤ 24 ∧ ys (8 * p + k) = nI (sh_cl ys (8 * p + k)) ∧ sh_cl ys (8 * p + k) ≤ 12
def sh_Pt (xs ys : Nat → Int32) (e : Nat) : Prop := e < 48 ∧ xs e = nI (sh_cl xs e) ∧ sh_cl xs e ≤ 24 ∧ ys e = nI (sh_cl ys e) ∧ sh_cl ys e ≤ 12
theorem sh_ok_e {cnt : Nat} {xs ys sz : Nat → Int32} (H : sh_Ok cnt xs ys sz) {e : Nat} (h1 : e / 8 < cnt) (h2 : e % 8 < sh_cl sz (e / 8)) : sh_Pt xs ys e := by
  have h := (H.2 (e / 8) h1).2.2 (e % 8) h2
  rw [show 8 * (e / 8) + e % 8 = e by omega] at h
  have := H.1
  exact ⟨by omega, h⟩
theorem sh_to_in {cnt : Nat} {xs ys sz : Nat → Int32} (H : sh_Ok cnt xs ys sz) {e : Nat} (h1 : e / 8 < cnt) (h2 : e % 8 < sh_cl sz (e / 8)) : sh_to sz e / 8 = e / 8 ∧ sh_to sz e % 8 < sh_cl sz (e / 8) := by
  have h := (H.2 (e / 8) h1).2.1
  unfold sh_to
  split <;> omega
theorem sh_ok_to {cnt : Nat} {xs ys sz : Nat → Int32} (H : sh_Ok cnt xs ys sz) {e : Nat} (h1 : e / 8 < cnt) (h2 : e % 8 < sh_cl sz (e / 8)) : sh_Pt xs ys (sh_to sz e) := by
  obtain ⟨a, b⟩ := sh_to_in H h1 h2
  exact sh_ok_e H (by omega) (by rw [a]; exact b)
def sh_K (x1 x2 h t : Nat) : Nat := x1 * (2 * h - (2 * t + 1)) + x2 * (2 * t + 1) + (h - 1)
theorem sh_K_lt {x1 x2 h t : Nat} (a : x1 ≤ 24) (b : x2 ≤ 24) (ht : t < h) : sh_K x1 x2 h t < 50 * h := by
  have c := Nat.mul_le_mul_right (2 * h - (2 * t + 1)) a
  have d := Nat.mul_le_mul_right (2 * t + 1) b
  unfold sh_K
  generalize x1 * (2 * h - (2 * t + 1)) = u at *
  generalize x2 * (2 * t + 1) = v at *
  omega
theorem sh_K_step {x1 x2 h t : Nat} (ht : t + 1 < h) : sh_K x1 x2 h (t + 1) + 2 * x1 = sh_K x1 x2 h t + 2 * x2 := by
  unfold sh_K
  rw [show 2 * h - (2 * t + 1) = (2 * h - (2 * (t + 1) + 1)) + 2 by omega, show 2 * (t + 1) + 1 = (2 * t + 1) + 2 by omega, Nat.mul_add x1 _ 2, Nat.mul_add x2 (2 * t + 1) 2]
  generalize x2 * (2 * t + 1) = v
  generalize x1 * (2 * h - (2 * t + 1 + 2)) = u
  omega
theorem sh_K_int {x1 x2 h t : Nat} (ht : t < h) : ((sh_K x1 x2 h t : Nat) : Int) = 2 * ((x1 : Int) * h) + (2 * (t : Int) + 1) * ((x2 : Int) - x1) + h - 1 := by
  unfold sh_K
  obtain ⟨g, rfl⟩ : ∃ g, h = g + 1 := ⟨h - 1, by omega⟩
  obtain ⟨r, hr⟩ : ∃ r, 2 * (g + 1) = (2 * t + 1) + r := ⟨2 * (g + 1) - (2 * t + 1), by omega⟩
  rw [hr, Nat.add_sub_cancel_left, Nat.add_sub_cancel]
  have h2 : (g : Int) = ((2 * (t : Int) + 1) + r) / 2 - 1 := by omega
  have h3 : (r : Int) = 2 * ((g : Int) + 1) - (2 * (t : Int) + 1) := by omega
  push_cast
  rw [h3]
  clear h2 h3 hr
  grind
theorem sh_core {x1 x2 h t i : Nat} (ht : t < h) : ((2 * (x1 : Int) - (2 * (i : Int) + 1)) * (h : Int) + (2 * (t : Int) + 1) * ((x2 : Int) - x1) ≤ 0) ↔ sh_K x1 x2 h t / (2 * h) ≤ i := by
  have hK := sh_K_int (x1 := x1) (x2 := x2) ht
  have e1 : sh_K x1 x2 h t / (2 * h) ≤ i ↔ sh_K x1 x2 h t < (i + 1) * (2 * h) := by
    rw [← Nat.div_lt_iff_lt_mul (by omega)]
    omega
  have e2 : (i + 1) * (2 * h) = 2 * (i * h) + 2 * h := by grind
  have e3 : (2 * (x1 : Int) - (2 * (i : Int) + 1)) * (h : Int) = 2 * ((x1 : Int) * h) - 2 * ((i : Int) * h) - h := by grind
  rw [e1, e2, e3]
  have e4 : ((i * h : Nat) : Int) = (i : Int) * h := by push_cast; rfl
  generalize (i : Int) * h = ih at *
  generalize (x1 : Int) * h = xh at *
  generalize (2 * (t : Int) + 1) * ((x2 : Int) - x1) = w at *
  omega
theorem sh_lf_D {x1 y1 x2 y2 i j : Nat} (h1 : x1 ≤ 24) (h2 : y1 ≤ 12) (h3 : x2 ≤ 24) (h4 : y2 ≤ 12) (hi : i < 24) (hj : j < 12) :
    ((((2 * nI x1) - nI (2 * i + 1)) * (nI y2 - nI y1)) + ((nI (2 * j + 1) - (2 * nI y1)) * (nI x2 - nI x1))).toInt =
      (2 * (x1 : Int) - (2 * (i : Int) + 1)) * ((y2 : Int) - y1) + ((2 * (j : Int) + 1) - 2 * (y1 : Int)) * ((x2 : Int) - x1) := by
  rw [sh_2n, sh_2n]
  have a1 := pk_sub_toInt (a := 2 * x1) (b := 2 * i + 1) (by omega) (by omega)
  have a2 := pk_sub_toInt (a := y2) (b := y1) (by omega) (by omega)
  have a3 := pk_sub_toInt (a := 2 * j + 1) (b := 2 * y1) (by omega) (by omega)
  have a4 := pk_sub_toInt (a := x2) (b := x1) (by omega) (by omega)
  have m1 := sh_mbd (x := ((2 * x1 : Nat) : Int) - ((2 * i + 1 : Nat) : Int)) (y := (y2 : Int) - y1) 49 12 (by omega) (by omega) (by omega) (by omega)
  have m2 := sh_mbd (x := ((2 * j + 1 : Nat) : Int) - ((2 * y1 : Nat) : Int)) (y := (x2 : Int) - x1) 49 24 (by omega) (by omega) (by omega) (by omega)
  have k1 := sh_mul a1 a2 (by omega) (by omega)
  have k2 := sh_mul a3 a4 (by omega) (by omega)
  rw [sh_add k1 k2 (by omega) (by omega)]
  push_cast
  rfl
theorem sh_lf_iff {x1 y1 x2 y2 i j : Nat} (h1 : x1 ≤ 24) (h2 : y1 ≤ 12) (h3 : x2 ≤ 24) (h4 : y2 ≤ 12) (hi : i < 24) (hj : j < 12) :
    sh_lf (nI x1) (nI y1) (nI x2) (nI y2) (2 * nI i + 1) (2 * nI j + 1) = true ↔
      (y1 ≤ j ∧ j < y2 ∧ (2 * (x1 : Int) - (2 * (i : Int) + 1)) * ((y2 : Int) - y1) + ((2 * (j : Int) + 1) - 2 * (y1 : Int)) * ((x2 : Int) - x1) ≤ 0) ∨
      (y2 ≤ j ∧ j < y1 ∧ 0 ≤ (2 * (x1 : Int) - (2 * (i : Int) + 1)) * ((y2 : Int) - y1) + ((2 * (j : Int) + 1) - 2 * (y1 : Int)) * ((x2 : Int) - x1)) := by
  have hD := sh_lf_D h1 h2 h3 h4 hi hj
  unfold sh_lf
  rw [sh_2i, sh_2i]
  generalize hd : (((2 * nI x1) - nI (2 * i + 1)) * (nI y2 - nI y1)) + ((nI (2 * j + 1) - (2 * nI y1)) * (nI x2 - nI x1)) = d at *
  generalize (2 * (x1 : Int) - (2 * (i : Int) + 1)) * ((y2 : Int) - y1) + ((2 * (j : Int) + 1) - 2 * (y1 : Int)) * ((x2 : Int) - x1) = D at *
  have z : (0 : Int32).toInt = 0 := by decide
  rw [sh_2n, sh_2n]
  simp only [Bool.or_eq_true, Bool.and_eq_true, Bool.not_eq_true', decide_eq_true_eq, decide_eq_false_iff_not, Int32.le_iff_toInt_le, Int32.lt_iff_toInt_lt, hD, z,
    nI_toInt (show 2 * j + 1 < 2 ^ 31 by omega), nI_toInt (show 2 * y1 < 2 ^ 31 by omega), nI_toInt (show 2 * y2 < 2 ^ 31 by omega)]
  omega
theorem sh_case1 {x1 y1 x2 y2 i j : Nat} (h : y1 < y2) :
    ((y1 ≤ j ∧ j < y2 ∧ (2 * (x1 : Int) - (2 * (i : Int) + 1)) * ((y2 : Int) - y1) + ((2 * (j : Int) + 1) - 2 * (y1 : Int)) * ((x2 : Int) - x1) ≤ 0) ∨
      (y2 ≤ j ∧ j < y1 ∧ 0 ≤ (2 * (x1 : Int) - (2 * (i : Int) + 1)) * ((y2 : Int) - y1) + ((2 * (j : Int) + 1) - 2 * (y1 : Int)) * ((x2 : Int) - x1))) ↔
    (y1 ≠ y2 ∧ y1 ≤ j ∧ j < y2 ∧ sh_K x1 x2 (y2 - y1) (j - y1) / (2 * (y2 - y1)) ≤ i) := by
  have key : y1 ≤ j → j < y2 → ((2 * (x1 : Int) - (2 * (i : Int) + 1)) * ((y2 : Int) - y1) + ((2 * (j : Int) + 1) - 2 * (y1 : Int)) * ((x2 : Int) - x1) ≤ 0 ↔ sh_K x1 x2 (y2 - y1) (j - y1) / (2 * (y2 - y1)) ≤ i) := by
    intro a b
    rw [← sh_core (by omega), show ((y2 - y1 : Nat) : Int) = (y2 : Int) - y1 by omega, show 2 * ((j - y1 : Nat) : Int) + 1 = 2 * (j : Int) + 1 - 2 * (y1 : Int) by omega]
  constructor
  · rintro (⟨a, b, c⟩ | ⟨a, b, c⟩)
    · exact ⟨by omega, a, b, (key a b).mp c⟩
    · omega
  · rintro ⟨_, a, b, c⟩
    exact Or.inl ⟨a, b, (key a b).mpr c⟩
theorem sh_case2 {x1 y1 x2 y2 i j : Nat} (h : y2 < y1) :
    ((y1 ≤ j ∧ j < y2 ∧ (2 * (x1 : Int) - (2 * (i : Int) + 1)) * ((y2 : Int) - y1) + ((2 * (j : Int) + 1) - 2 * (y1 : Int)) * ((x2 : Int) - x1) ≤ 0) ∨
      (y2 ≤ j ∧ j < y1 ∧ 0 ≤ (2 * (x1 : Int) - (2 * (i : Int) + 1)) * ((y2 : Int) - y1) + ((2 * (j : Int) + 1) - 2 * (y1 : Int)) * ((x2 : Int) - x1))) ↔
    (y1 ≠ y2 ∧ y2 ≤ j ∧ j < y1 ∧ sh_K x2 x1 (y1 - y2) (j - y2) / (2 * (y1 - y2)) ≤ i) := by
  have key : y2 ≤ j → j < y1 → (0 ≤ (2 * (x1 : Int) - (2 * (i : Int) + 1)) * ((y2 : Int) - y1) + ((2 * (j : Int) + 1) - 2 * (y1 : Int)) * ((x2 : Int) - x1) ↔ sh_K x2 x1 (y1 - y2) (j - y2) / (2 * (y1 - y2)) ≤ i) := by
    intro a b
    rw [← sh_core (by omega), show ((y1 - y2 : Nat) : Int) = (y1 : Int) - y2 by omega, show 2 * ((j - y2 : Nat) : Int) + 1 = 2 * (j : Int) + 1 - 2 * (y2 : Int) by omega]
    have e : (2 * (x1 : Int) - (2 * (i : Int) + 1)) * ((y2 : Int) - y1) + ((2 * (j : Int) + 1) - 2 * (y1 : Int)) * ((x2 : Int) - x1) =
        -((2 * (x2 : Int) - (2 * (i : Int) + 1)) * ((y1 : Int) - y2) + (2 * (j : Int) + 1 - 2 * (y2 : Int)) * ((x1 : Int) - x2)) := by grind
    rw [e]
    generalize (2 * (x2 : Int) - (2 * (i : Int) + 1)) * ((y1 : Int) - y2) + (2 * (j : Int) + 1 - 2 * (y2 : Int)) * ((x1 : Int) - x2) = z
    omega
  constructor
  · rintro (⟨a, b, c⟩ | ⟨a, b, c⟩)
    · omega
    · exact ⟨by omega, a, b, (key a b).mp c⟩
  · rintro ⟨_, a, b, c⟩
    exact Or.inr ⟨a, b, (key a b).mpr c⟩
theorem sh_le_iff {cnt : Nat} {xs ys sz : Nat → Int32} (H : sh_Ok cnt xs ys sz) {e i j : Nat} (h1 : e / 8 < cnt) (h2 : e % 8 < sh_cl sz (e / 8)) (hi : i < 24) (hj : j < 12) :
    sh_le xs ys sz e i j = true ↔ (sh_E cnt ys sz e = true ∧ sh_yt ys sz e ≤ j ∧ j < sh_yb ys sz e ∧
      sh_K (sh_xt xs ys sz e) (sh_xb xs ys sz e) (sh_yb ys sz e - sh_yt ys sz e) (j - sh_yt ys sz e) / (2 * (sh_yb ys sz e - sh_yt ys sz e)) ≤ i) := by
  obtain ⟨_, a1, a2, a3, a4⟩ := sh_ok_e H h1 h2
  obtain ⟨_, b1, b2, b3, b4⟩ := sh_ok_to H h1 h2
  have hE : sh_E cnt ys sz e = true ↔ sh_cl ys e ≠ sh_cl ys (sh_to sz e) := by
    unfold sh_E
    rw [decide_eq_true_eq]
    exact ⟨fun h => h.2.2, fun h => ⟨h1, h2, h⟩⟩
  have hL : sh_le xs ys sz e i j = sh_lf (nI (sh_cl xs e)) (nI (sh_cl ys e)) (nI (sh_cl xs (sh_to sz e))) (nI (sh_cl ys (sh_to sz e))) (2 * nI i + 1) (2 * nI j + 1) := by
    unfold sh_le
    rw [← a1, ← a3, ← b1, ← b3]
  rw [hL, sh_lf_iff a2 a4 b2 b4 hi hj, hE]
  rcases Nat.lt_trichotomy (sh_cl ys e) (sh_cl ys (sh_to sz e)) with h | h | h
  · have t1 : sh_tp ys sz e = e := if_pos h
    have t2 : sh_lo ys sz e = sh_to sz e := if_pos h
    unfold sh_yt sh_yb sh_xt sh_xb
    rw [t1, t2]
    exact sh_case1 h
  · rw [h]
    constructor
    · rintro (⟨a, b, c⟩ | ⟨a, b, c⟩) <;> omega
    · rintro ⟨a, _⟩
      exact absurd rfl a
  · have t1 : sh_tp ys sz e = sh_to sz e := if_neg (by omega)
    have t2 : sh_lo ys sz e = e := if_neg (by omega)
    unfold sh_yt sh_yb sh_xt sh_xb
    rw [t1, t2]
    exact sh_case2 h
/-- the corners of an edge that is not level -/
theorem sh_E_pts {cnt : Nat} {xs ys sz : Nat → Int32} (H : sh_Ok cnt xs ys sz) {e : Nat} (h : sh_E cnt ys sz e = true) :
    e < 48 ∧ e / 8 < cnt ∧ e % 8 < sh_cl sz (e / 8) ∧ sh_Pt xs ys (sh_tp ys sz e) ∧ sh_Pt xs ys (sh_lo ys sz e) ∧ sh_yt ys sz e < sh_yb ys sz e := by
  unfold sh_E at h
  rw [decide_eq_true_eq] at h
  obtain ⟨h1, h2, h3⟩ := h
  have a := sh_ok_e H h1 h2
  have b := sh_ok_to H h1 h2
  unfold sh_yt sh_yb
  by_cases c : sh_cl ys e < sh_cl ys (sh_to sz e)
  · have t1 : sh_tp ys sz e = e := if_pos c
    have t2 : sh_lo ys sz e = sh_to sz e := if_pos c
    rw [t1, t2]
    exact ⟨a.1, h1, h2, a, b, c⟩
  · have t1 : sh_tp ys sz e = sh_to sz e := if_neg c
    have t2 : sh_lo ys sz e = e := if_neg c
    rw [t1, t2]
    exact ⟨a.1, h1, h2, b, a, by omega⟩
/-! what the arrays hold of an edge at row r -/
def sh_Ed (X1 X2 Y1 Y2 r : Nat) (lr co re st sr he : Int32) : Prop :=
  lr = nI (Y2 - 1) ∧ he = nI (2 * (Y2 - Y1)) ∧ co = nI (sh_K X1 X2 (Y2 - Y1) (r - Y1) / (2 * (Y2 - Y1))) ∧ re = nI (sh_K X1 X2 (Y2 - Y1) (r - Y1) % (2 * (Y2 - Y1))) ∧
  ∃ s : Nat, s < 2 * (Y2 - Y1) ∧ sr = nI s ∧ -100 ≤ st.toInt ∧ st.toInt ≤ 100 ∧ st.toInt * ((2 * (Y2 - Y1) : Nat) : Int) + s = 2 * (X2 : Int) - 2 * (X1 : Int)
theorem sh_div_un {K D r : Nat} {c : Int} (hr : r < D) (h : (K : Int) = c * (D : Int) + r) : c = ((K / D : Nat) : Int) ∧ r = K % D := by
  have u := (Int.ediv_emod_unique (a := (K : Int)) (b := (D : Int)) (r := (r : Int)) (q := c) (by omega)).mpr ⟨by rw [h, Int.mul_comm]; exact Int.add_comm _ _, by omega, by omega⟩
  rw [Int.natCast_ediv]
  refine ⟨u.1.symm, ?_⟩
  have v := u.2
  rw [← Int.natCast_emod] at v
  omega
theorem sh_Ed_col {X1 X2 Y1 Y2 r : Nat} (h1 : X1 ≤ 24) (h2 : X2 ≤ 24) (hr1 : Y1 ≤ r) (hr2 : r < Y2) : sh_K X1 X2 (Y2 - Y1) (r - Y1) / (2 * (Y2 - Y1)) ≤ 24 := by
  have hk := sh_K_lt (t := r - Y1) (h := Y2 - Y1) h1 h2 (by omega)
  have e1 : sh_K X1 X2 (Y2 - Y1) (r - Y1) / (2 * (Y2 - Y1)) < 25 := by
    rw [Nat.div_lt_iff_lt_mul (by omega)]
    omega
  omega
theorem sh_Ed_step {X1 X2 Y1 Y2 r : Nat} {lr co re st sr he : Int32} (h1 : X1 ≤ 24) (h2 : X2 ≤ 24) (hY : Y2 ≤ 12) (hr1 : Y1 ≤ r) (hr2 : r + 1 < Y2) (I : sh_Ed X1 X2 Y1 Y2 r lr co re st sr he) :
    (re + sr < he → sh_Ed X1 X2 Y1 Y2 (r + 1) lr (co + st) (re + sr) st sr he) ∧ (¬ re + sr < he → sh_Ed X1 X2 Y1 Y2 (r + 1) lr (co + st + 1) (re + sr - he) st sr he) := by
  obtain ⟨i1, rfl, rfl, rfl, s, hs, rfl, g1, g2, g3⟩ := I
  have hc0 := sh_Ed_col (Y2 := Y2) h1 h2 hr1 (by omega)
  have hc1 := sh_Ed_col (Y1 := Y1) (Y2 := Y2) (r := r + 1) h1 h2 (by omega) hr2
  have hst := sh_K_step (x1 := X1) (x2 := X2) (h := Y2 - Y1) (t := r - Y1) (by omega)
  rw [show r - Y1 + 1 = r + 1 - Y1 by omega] at hst
  unfold sh_Ed
  have hD : 2 * (Y2 - Y1) ≤ 24 := by omega
  have hD0 : 0 < 2 * (Y2 - Y1) := by omega
  generalize 2 * (Y2 - Y1) = D at *
  generalize sh_K X1 X2 (Y2 - Y1) (r - Y1) = K at *
  generalize sh_K X1 X2 (Y2 - Y1) (r + 1 - Y1) = K' at *
  have hm : K % D < D := Nat.mod_lt _ hD0
  have hdm : (K : Int) = ((K / D : Nat) : Int) * (D : Int) + ((K % D : Nat) : Int) := by
    have := Nat.div_add_mod' K D
    have e : ((K / D * D + K % D : Nat) : Int) = (K : Int) := by rw [this]
    rw [← e]
    push_cast
    rfl
  rw [nI_add, nI_ltI (by omega) (by omega)]
  generalize K % D = m at *
  generalize hq : K / D = q at *
  have ha : (nI q + st).toInt = (q : Int) + st.toInt := sh_add (nI_toInt (by omega)) rfl (by omega) (by omega)
  constructor
  · intro hlt
    have u := sh_div_un (K := K') (D := D) (r := m + s) (c := (q : Int) + st.toInt) hlt (by
      rw [Int.add_mul]
      push_cast
      generalize (q : Int) * (D : Int) = qd at *
      generalize st.toInt * (D : Int) = sd at *
      omega)
    exact ⟨i1, rfl, sh_eqI (ha.trans u.1) (by omega), congrArg nI u.2, s, hs, rfl, g1, g2, g3⟩
  · intro hlt
    have u := sh_div_un (K := K') (D := D) (r := m + s - D) (c := (q : Int) + st.toInt + 1) (by omega) (by
      rw [Int.add_mul, Int.add_mul]
      generalize (q : Int) * (D : Int) = qd at *
      generalize st.toInt * (D : Int) = sd at *
      omega)
    have hb : (nI q + st + 1).toInt = (q : Int) + st.toInt + 1 := sh_add ha (by decide) (by omega) (by omega)
    exact ⟨i1, rfl, sh_eqI (hb.trans u.1) (by omega), by rw [pk_sub (by omega)]; exact congrArg nI u.2, s, hs, rfl, g1, g2, g3⟩
/-- an edge as prepare lays it: the growth of a column by row -/
theorem sh_grow_pos {a h : Nat} (ha : a ≤ 24) (h0 : 0 < h) (hh : h ≤ 12) : ∃ s : Nat, s < 2 * h ∧ nI a / nI h = nI (a / h) ∧ 2 * (nI a - nI (a / h) * nI h) = nI s ∧ -100 ≤ (nI (a / h)).toInt ∧ (nI (a / h)).toInt ≤ 100 ∧ (nI (a / h)).toInt * ((2 * h : Nat) : Int) + s = 2 * (a : Int) := by
  have q1 : a / h ≤ a := Nat.div_le_self _ _
  have q2 := Nat.div_mul_le_self a h
  have q3 := Nat.div_add_mod' a h
  have q4 := Nat.mod_lt a h0
  refine ⟨2 * (a % h), by omega, pk_div (by omega) h0 (by omega), ?_⟩
  generalize a / h = q at *
  generalize a % h = m at *
  have e : ((q * h : Nat) : Int) = (q : Int) * (h : Int) := by push_cast; rfl
  have e2 : (q : Int) * ((2 * h : Nat) : Int) = 2 * ((q : Int) * (h : Int)) := by
    push_cast
    grind
  refine ⟨?_, ?_⟩
  · rw [pk_mul, pk_sub q2, sh_2n]
    exact congrArg nI (by omega)
  · rw [nI_toInt (by omega)]
    refine ⟨by omega, by omega, ?_⟩
    rw [e2, ← e]
    omega
theorem sh_grow_neg {a h : Nat} (ha : a ≤ 24) (h0 : 0 < h) (hh : h ≤ 12) : ∃ (s : Nat) (z : Int32), s < 2 * h ∧ -(((nI a + nI h) - 1) / nI h) = z ∧ 2 * ((-nI a) - z * nI h) = nI s ∧ -100 ≤ z.toInt ∧ z.toInt ≤ 100 ∧ z.toInt * ((2 * h : Nat) : Int) + s = -(2 * (a : Int)) := by
  have q1 : (a + h - 1) / h ≤ a + h - 1 := Nat.div_le_self _ _
  have q3 := Nat.div_add_mod' (a + h - 1) h
  have q4 := Nat.mod_lt (a + h - 1) h0
  have e0 : (nI a + nI h) - 1 = nI (a + h - 1) := by
    rw [nI_add]
    exact pk_sub (a := a + h) (b := 1) (by omega)
  rw [e0, pk_div (by omega) h0 (by omega)]
  generalize (a + h - 1) / h = q at *
  have hz : (-nI q).toInt = -(q : Int) := sb_negT (by omega)
  have e1 : ((q * h : Nat) : Int) = (q : Int) * (h : Int) := by push_cast; rfl
  refine ⟨2 * (q * h - a), -nI q, by omega, rfl, ?_, by omega, by omega, ?_⟩
  · apply sh_eqI _ (by omega)
    have m1 : (-nI q * nI h).toInt = -((q : Int) * h) := by
      rw [sh_mul hz (nI_toInt (show h < 2 ^ 31 by omega)) (by rw [Int.neg_mul, ← e1]; omega) (by rw [Int.neg_mul, ← e1]; omega), Int.neg_mul]
    have m2 : (-nI a).toInt = -(a : Int) := sb_negT (by omega)
    have m3 := sh_sub m2 m1 (by rw [← e1]; omega) (by rw [← e1]; omega)
    have m4 := sh_mul (show (2 : Int32).toInt = 2 by decide) m3 (by rw [← e1]; omega) (by rw [← e1]; omega)
    rw [m4, ← e1]
    omega
  · rw [hz]
    have e2 : -(q : Int) * ((2 * h : Nat) : Int) = -(2 * ((q : Int) * (h : Int))) := by
      push_cast
      grind
    rw [e2, ← e1]
    omega
end
section
/-! the reference's own questions: left, covering, depth, ownerOf -/
section
variable {pt dA dB dC dn : Int32} {yx yy sd pa pb pc : Nat → Int32}
theorem ya_169 {post : Int32 → Prop} {a : Bool} {x12 : Int32} (h : post (sh_b (a && !decide (x12 < 0)))) : wY_left_169 post (sh_b a) x12 pt dA dB dC dn yx yy sd pa pb pc := by
  unfold wY_left_169
  cases a
  · exact br_t rfl h
  · refine br_f (by decide) ?_
    by_cases c : x12 < 0
    · refine br_t c ?_
      rw [decide_eq_true c] at h
      exact h
    · refine br_f c ?_
      rw [decide_eq_false c] at h
      exact h
theorem ya_129 {post : Int32 → Prop} {x3 x4 x6 x7 x8 x9 : Int32} {a b : Bool}
    (h : post (sh_b ((a && decide ((((2 * x6) - x3) * (x9 - x7)) + ((x4 - (2 * x7)) * (x8 - x6)) ≤ 0)) || (b && !decide ((((2 * x6) - x3) * (x9 - x7)) + ((x4 - (2 * x7)) * (x8 - x6)) < 0))))) :
    wY_left_129 post x3 x4 x6 x7 x8 x9 (sh_b a) (sh_b b) pt dA dB dC dn yx yy sd pa pb pc := by
  unfold wY_left_129
  refine nm_e ?_
  cases a
  · refine br_t rfl (ya_169 ?_)
    rw [Bool.false_and, Bool.false_or] at h
    exact h
  · refine br_f (by decide) ?_
    by_cases c : (((2 * x6) - x3) * (x9 - x7)) + ((x4 - (2 * x7)) * (x8 - x6)) ≤ 0
    · refine br_t c ?_
      rw [decide_eq_true c, Bool.true_and, Bool.true_or] at h
      exact h
    · refine br_f c (ya_169 ?_)
      rw [decide_eq_false c, Bool.and_false, Bool.false_or] at h
      exact h
theorem ya_104 {post : Int32 → Prop} {x3 x4 x6 x7 x8 x9 : Int32} {a : Bool}
    (h : post (sh_b ((a && decide ((((2 * x6) - x3) * (x9 - x7)) + ((x4 - (2 * x7)) * (x8 - x6)) ≤ 0)) || ((!decide (x4 ≤ 2 * x9) && !decide (2 * x7 ≤ x4)) && !decide ((((2 * x6) - x3) * (x9 - x7)) + ((x4 - (2 * x7)) * (x8 - x6)) < 0))))) :
    wY_left_104 post x3 x4 x6 x7 x8 x9 (sh_b a) pt dA dB dC dn yx yy sd pa pb pc := by
  unfold wY_left_104
  by_cases c : x4 ≤ 2 * x9
  · refine br_t c ?_
    rw [decide_eq_true c] at h
    unfold wY_left_128
    exact ya_129 (b := false) h
  · refine br_f c ?_
    rw [decide_eq_false c] at h
    by_cases c2 : 2 * x7 ≤ x4
    · refine br_t c2 ?_
      rw [decide_eq_true c2] at h
      unfold wY_left_128
      exact ya_129 (b := false) h
    · refine br_f c2 ?_
      rw [decide_eq_false c2] at h
      exact ya_129 (b := true) h
theorem ya_tail {post : Int32 → Prop} {x3 x4 x6 x7 x8 x9 : Int32} (h : post (sh_b (sh_lf x6 x7 x8 x9 x3 x4))) :
    ((x4 ≤ (2 * x7) → (wY_left_103 post x3 x4 x6 x7 x8 x9 pt dA dB dC dn yx yy sd pa pb pc)) ∧ (¬ x4 ≤ (2 * x7) → ((((2 * x9) ≤ x4 → (wY_left_103 post x3 x4 x6 x7 x8 x9 pt dA dB dC dn yx yy sd pa pb pc)) ∧ (¬ (2 * x9) ≤ x4 → (wY_left_104 post x3 x4 x6 x7 x8 x9 1 pt dA dB dC dn yx yy sd pa pb pc)))))) := by
  unfold sh_lf at h
  by_cases c : x4 ≤ 2 * x7
  · refine br_t c ?_
    rw [decide_eq_true c] at h
    unfold wY_left_103
    exact ya_104 (a := false) h
  · refine br_f c ?_
    rw [decide_eq_false c] at h
    by_cases c2 : 2 * x9 ≤ x4
    · refine br_t c2 ?_
      rw [decide_eq_true c2] at h
      unfold wY_left_103
      exact ya_104 (a := false) h
    · refine br_f c2 ?_
      rw [decide_eq_false c2] at h
      exact ya_104 (a := true) h
theorem ya_and7 : ∀ z, z < 8 → nI z &&& 7 = nI z := by decide +kernel
theorem ya_19 {post : Int32 → Prop} {x3 x4 : Int32} {p k z : Nat} (hp : p < 6) (hk : k < 8) (hz : z < 8)
    (h : post (sh_b (sh_lf (yx (8 * p + k)) (yy (8 * p + k)) (yx (8 * p + z)) (yy (8 * p + z)) x3 x4))) : wY_left_19 post (nI p) (nI k) x3 x4 (nI z) pt dA dB dC dn yx yy sd pa pb pc := by
  unfold wY_left_19
  rw [ya_and7 z hz, sh_8k, sh_8k, nI_clamp (show 8 * p + k < 2 ^ 31 by omega), nI_clamp (show 8 * p + z < 2 ^ 31 by omega)]
  have i1 : vp_in (nI (8 * p + k)) 56 := vp_in_nI (by omega) (by omega)
  have i2 : vp_in (nI (8 * p + z)) 56 := vp_in_nI (by omega) (by omega)
  exact ⟨i1, nm_e ⟨i1, nm_e ⟨i2, nm_e ⟨i2, nm_e (ya_tail h)⟩⟩⟩⟩
theorem ya_left {post : Int32 → Prop} {p k i j : Nat} (hp : p < 6) (hk : k < sh_cl sd p) (h8 : sh_cl sd p ≤ 8) (hs : sd p = nI (sh_cl sd p))
    (h : post (sh_b (sh_le yx yy sd (8 * p + k) i j))) : wpY_left post (pt, dA, dB, dC, dn, yx, yy, sd, pa, pb, pc) (nI p) (nI k) (2 * nI i + 1) (2 * nI j + 1) := by
  unfold wpY_left
  dsimp only
  rw [nI_clamp (show p < 2 ^ 31 by omega), hs]
  refine ⟨vp_in_nI hp (by omega), ?_⟩
  unfold sh_le sh_to at h
  rw [show (8 * p + k) / 8 = p by omega, show (8 * p + k) % 8 = k by omega] at h
  rw [nI_1]
  by_cases c : sh_cl sd p ≤ k + 1
  · refine br_t (nI_le c (by omega)) ?_
    rw [if_neg (by omega)] at h
    exact ya_19 (z := 0) hp (by omega) (by omega) h
  · refine br_f (nI_ge (by omega) (by omega)) ?_
    rw [if_pos (by omega)] at h
    exact ya_19 hp (by omega) (by omega) h
theorem ya_cov6 {post : Int32 → Prop} {p i j : Nat} (hp : p < 6) (h8 : sh_cl sd p ≤ 8) (hs : sd p = nI (sh_cl sd p)) (h : post (sh_b (sh_cov yx yy sd p i j))) :
    ∀ (m k n : Nat), k + m = sh_cl sd p → m < n → wY_covering_6 post (nI p) (nI i) (nI j) pt dA dB dC dn yx yy sd pa pb pc n (sh_b (sh_xs (fun k => sh_le yx yy sd (8 * p + k) i j) k)) (nI k) := by
  intro m
  induction m with
  | zero =>
    intro k n hk hn
    obtain ⟨n, rfl⟩ : ∃ n', n = n' + 1 := ⟨n - 1, by omega⟩
    rw [wY_covering_6, nI_clamp (show p < 2 ^ 31 by omega), hs]
    refine ⟨vp_in_nI hp (by omega), br_t (nI_le (by omega) (by omega)) ⟨sh_bn _, ?_⟩⟩
    rw [show k = sh_cl sd p by omega]
    exact h
  | succ m ih =>
    intro k n hk hn
    obtain ⟨n, rfl⟩ : ∃ n', n = n' + 1 := ⟨n - 1, by omega⟩
    rw [wY_covering_6, nI_clamp (show p < 2 ^ 31 by omega), hs]
    refine ⟨vp_in_nI hp (by omega), br_f (nI_ge (by omega) (by omega)) (br_f (nI_ge (b := 8) (by omega) (by omega)) (ya_left hp (by omega) h8 hs ?_))⟩
    have g := ih (k + 1) n (by omega) (by omega)
    rw [sh_xs_s] at g
    cases c : sh_le yx yy sd (8 * p + k) i j
    · rw [c, Bool.xor_false] at g
      refine br_t rfl (nm_r (nI_1 k) g)
    · rw [c, Bool.xor_true] at g
      refine br_f (by decide) ?_
      cases c2 : sh_xs (fun k => sh_le yx yy sd (8 * p + k) i j) k
      · rw [c2] at g
        exact br_t rfl (nm_r (nI_1 k) g)
      · rw [c2] at g
        exact br_f (by decide) (nm_r (nI_1 k) g)
theorem ya_cov {post : Int32 → Prop} {p i j : Nat} (hp : p < 6) (h8 : sh_cl sd p ≤ 8) (hs : sd p = nI (sh_cl sd p)) (h : post (sh_b (sh_cov yx yy sd p i j))) : wpY_covering post (pt, dA, dB, dC, dn, yx, yy, sd, pa, pb, pc) (nI p) (nI i) (nI j) := by
  unfold wpY_covering
  dsimp only
  exact ⟨sh_cl sd p + 1, ya_cov6 hp h8 hs h (sh_cl sd p) 0 _ (by omega) (by omega)⟩
end
/-! the depth, one Int32 for both -/
def sh_dp (sx sy sc : Nat → Int32) (i j p : Nat) : Int32 := ((sx p * ((2 * nI i) + 1)) + (sy p * ((2 * nI j) + 1))) + sc p
def sh_dI (sx sy sc : Nat → Int32) (i j p : Nat) : Int := (sh_dp sx sy sc i j p).toInt
def sh_ow (cnt : Nat) (xs ys sz sx sy sc : Nat → Int32) (i j : Nat) : Option Nat := sh_fr (fun p => sh_cov xs ys sz p i j) (sh_dI sx sy sc i j) cnt
section
variable {pt dA dB dC : Int32} {yx yy sd pa pb pc : Nat → Int32} {cnt : Nat}
theorem ya_depth {post : Int32 → Prop} {dn : Int32} {p i j : Nat} (hp : p < 6) (h : post (sh_dp pa pb pc i j p)) : wpY_depth post (pt, dA, dB, dC, dn, yx, yy, sd, pa, pb, pc) (nI p) (nI i) (nI j) := by
  unfold wpY_depth
  dsimp only
  rw [nI_clamp (show p < 2 ^ 31 by omega)]
  have i1 : vp_in (nI p) 6 := vp_in_nI hp (by omega)
  exact ⟨i1, i1, i1, h⟩
theorem ya_own6 {post : Int32 → Prop} {i j : Nat} (hc : cnt ≤ 6) (hs : ∀ p, p < cnt → sd p = nI (sh_cl sd p) ∧ sh_cl sd p ≤ 8) (h : post (sh_en (sh_ow cnt yx yy sd pa pb pc i j))) :
    ∀ (m t n : Nat), t + m = cnt → m < n → wY_ownerOf_6 post (nI i) (nI j) pt dA dB dC (nI cnt) yx yy sd pa pb pc n (sh_en (sh_fr (fun p => sh_cov yx yy sd p i j) (sh_dI pa pb pc i j) t)) (nI t) := by
  intro m
  induction m with
  | zero =>
    intro t n ht hn
    obtain ⟨n, rfl⟩ : ∃ n', n = n' + 1 := ⟨n - 1, by omega⟩
    rw [wY_ownerOf_6]
    refine br_t (nI_le (by omega) (by omega)) ?_
    rw [show t = cnt by omega]
    exact h
  | succ m ih =>
    intro t n ht hn
    obtain ⟨n, rfl⟩ : ∃ n', n = n' + 1 := ⟨n - 1, by omega⟩
    rw [wY_ownerOf_6]
    have g := ih (t + 1) n (by omega) (by omega)
    refine br_f (nI_ge (by omega) (by omega)) (br_f (nI_ge (b := 6) (by omega) (by omega)) (ya_cov (by omega) (hs t (by omega)).2 (hs t (by omega)).1 ?_))
    cases c : sh_cov yx yy sd t i j
    · rw [sh_fr_0 (c := fun p => sh_cov yx yy sd p i j) c] at g
      exact br_t rfl (nm_r (nI_1 t) g)
    · refine br_f (by decide) ?_
      cases f : sh_fr (fun p => sh_cov yx yy sd p i j) (sh_dI pa pb pc i j) t with
      | none =>
        rw [sh_fr_1 (c := fun p => sh_cov yx yy sd p i j) c f] at g
        exact br_f (by decide) (nm_r (nI_1 t) g)
      | some b =>
        have hb := (sh_fr_is f).1
        refine br_t (nI_pos' (by omega)) (ya_depth (by omega) (ya_depth (by omega) ?_))
        by_cases d : sh_dI pa pb pc i j t < sh_dI pa pb pc i j b
        · rw [sh_fr_2 (c := fun p => sh_cov yx yy sd p i j) c f d] at g
          refine br_f (fun z => ?_) (nm_r (nI_1 t) g)
          rw [Int32.le_iff_toInt_le] at z
          unfold sh_dI at d
          omega
        · rw [sh_fr_3 (c := fun p => sh_cov yx yy sd p i j) c f d] at g
          refine br_t ?_ (nm_r (nI_1 t) g)
          rw [Int32.le_iff_toInt_le]
          unfold sh_dI at d
          omega
theorem ya_own {post : Int32 → Prop} {i j : Nat} (hc : cnt ≤ 6) (hs : ∀ p, p < cnt → sd p = nI (sh_cl sd p) ∧ sh_cl sd p ≤ 8) (h : post (sh_en (sh_ow cnt yx yy sd pa pb pc i j))) :
    wpY_ownerOf post (pt, dA, dB, dC, nI cnt, yx, yy, sd, pa, pb, pc) (nI i) (nI j) := by
  unfold wpY_ownerOf
  dsimp only
  exact ⟨cnt + 1, ya_own6 hc hs h cnt 0 _ (by omega) (by omega)⟩
end
end
section
/-! the buckets: chains through next -/
def sh_Ch (nx : Nat → Int32) : List Nat → Int32 → Prop
  | [], b => b = -1
  | e :: l, b => b = nI e ∧ e < 48 ∧ sh_Ch nx l (nx e)
theorem sh_Ch_upd {nx : Nat → Int32} {e : Nat} {v : Int32} : ∀ {l : List Nat} {b : Int32}, e ∉ l → sh_Ch nx l b → sh_Ch (upd nx e v) l b := by
  intro l
  induction l with
  | nil => intro b _ h; exact h
  | cons a l ih =>
    intro b hn h
    obtain ⟨h1, h2, h3⟩ := h
    refine ⟨h1, h2, ?_⟩
    rw [pk_un (show a ≠ e from fun z => hn (by rw [z]; exact List.mem_cons_self))]
    exact ih (fun z => hn (List.mem_cons_of_mem _ z)) h3
def sh_L (cnt : Nat) (ys sz : Nat → Int32) (r : Nat) : Nat → List Nat
  | 0 => []
  | b + 1 => if sh_E cnt ys sz b = true ∧ sh_yt ys sz b = r then b :: sh_L cnt ys sz r b else sh_L cnt ys sz r b
theorem sh_L_t {cnt : Nat} {ys sz : Nat → Int32} {r b : Nat} (h : sh_E cnt ys sz b = true) (hr : sh_yt ys sz b = r) : sh_L cnt ys sz r (b + 1) = b :: sh_L cnt ys sz r b := by
  rw [sh_L, if_pos ⟨h, hr⟩]
theorem sh_L_f {cnt : Nat} {ys sz : Nat → Int32} {r b : Nat} (h : ¬ (sh_E cnt ys sz b = true ∧ sh_yt ys sz b = r)) : sh_L cnt ys sz r (b + 1) = sh_L cnt ys sz r b := by
  rw [sh_L, if_neg h]
theorem sh_L_mem {cnt : Nat} {ys sz : Nat → Int32} {r e : Nat} : ∀ {b : Nat}, e ∈ sh_L cnt ys sz r b ↔ (e < b ∧ sh_E cnt ys sz e = true ∧ sh_yt ys sz e = r) := by
  intro b
  induction b with
  | zero => exact ⟨fun h => absurd h List.not_mem_nil, fun h => absurd h.1 (by omega)⟩
  | succ b ih =>
    by_cases c : sh_E cnt ys sz b = true ∧ sh_yt ys sz b = r
    · rw [sh_L_t c.1 c.2, List.mem_cons, ih]
      constructor
      · rintro (h | ⟨h1, h2⟩)
        · rw [h]; exact ⟨by omega, c⟩
        · exact ⟨by omega, h2⟩
      · rintro ⟨h1, h2⟩
        by_cases d : e = b
        · exact Or.inl d
        · exact Or.inr ⟨by omega, h2⟩
    · rw [sh_L_f c, ih]
      constructor
      · rintro ⟨h1, h2⟩
        exact ⟨by omega, h2⟩
      · rintro ⟨h1, h2⟩
        refine ⟨?_, h2⟩
        by_cases d : e = b
        · rw [d] at h2; exact absurd h2 c
        · omega
theorem sh_L_nd {cnt : Nat} {ys sz : Nat → Int32} {r : Nat} : ∀ {b : Nat}, (sh_L cnt ys sz r b).Nodup := by
  intro b
  induction b with
  | zero => exact List.nodup_nil
  | succ b ih =>
    by_cases c : sh_E cnt ys sz b = true ∧ sh_yt ys sz b = r
    · rw [sh_L_t c.1 c.2]
      exact List.nodup_cons.mpr ⟨fun h => absurd (sh_L_mem.mp h).1 (by omega), ih⟩
    · rw [sh_L_f c]; exact ih
def sh_EdA (xs ys sz : Nat → Int32) (e r : Nat) (lr co re st sr he : Nat → Int32) : Prop :=
  sh_Ed (sh_xt xs ys sz e) (sh_xb xs ys sz e) (sh_yt ys sz e) (sh_yb ys sz e) r (lr e) (co e) (re e) (st e) (sr e) (he e)
def sh_Fill (cnt : Nat) (xs ys sz : Nat → Int32) (b : Nat) (bk nx lr co re st sr he : Nat → Int32) : Prop :=
  (∀ r, r < 12 → sh_Ch nx (sh_L cnt ys sz r b) (bk r)) ∧ (∀ e, e < b → sh_E cnt ys sz e = true → sh_EdA xs ys sz e (sh_yt ys sz e) lr co re st sr he)
section
variable {cnt : Nat} {xs ys sz bk nx lr co re st sr he : Nat → Int32}
theorem sh_Fill_1 {b : Nat} (hn : sh_E cnt ys sz b = false) (F : sh_Fill cnt xs ys sz b bk nx lr co re st sr he) : sh_Fill cnt xs ys sz (b + 1) bk nx lr co re st sr he := by
  have hn' : ¬ sh_E cnt ys sz b = true := by rw [hn]; exact Bool.false_ne_true
  refine ⟨fun r hr => ?_, fun e h1 h2 => ?_⟩
  · rw [sh_L_f (fun z => hn' z.1)]
    exact F.1 r hr
  · by_cases c : e = b
    · rw [c] at h2; exact absurd h2 hn'
    · exact F.2 e (by omega) h2
theorem sh_Fill_skip {a : Nat} : ∀ {d : Nat}, (∀ e, a ≤ e → e < a + d → sh_E cnt ys sz e = false) → sh_Fill cnt xs ys sz a bk nx lr co re st sr he → sh_Fill cnt xs ys sz (a + d) bk nx lr co re st sr he := by
  intro d
  induction d with
  | zero => intro _ F; exact F
  | succ d ih =>
    intro h F
    exact sh_Fill_1 (h (a + d) (by omega) (by omega)) (ih (fun e h1 h2 => h e h1 (by omega)) F)
theorem sh_Fill_add {b : Nat} {vlr vco vre vst vsr vhe : Int32} (hE : sh_E cnt ys sz b = true) (hb : b < 48) (F : sh_Fill cnt xs ys sz b bk nx lr co re st sr he)
    (hEd : sh_Ed (sh_xt xs ys sz b) (sh_xb xs ys sz b) (sh_yt ys sz b) (sh_yb ys sz b) (sh_yt ys sz b) vlr vco vre vst vsr vhe) :
    sh_Fill cnt xs ys sz (b + 1) (upd bk (sh_yt ys sz b) (nI b)) (upd nx b (bk (sh_yt ys sz b))) (upd lr b vlr) (upd co b vco) (upd re b vre) (upd st b vst) (upd sr b vsr) (upd he b vhe) := by
  have hm : ∀ r, b ∉ sh_L cnt ys sz r b := fun r z => absurd (sh_L_mem.mp z).1 (by omega)
  refine ⟨fun r hr => ?_, fun e h1 h2 => ?_⟩
  · by_cases c : sh_yt ys sz b = r
    · rw [sh_L_t hE c, c, pk_us]
      refine ⟨rfl, hb, ?_⟩
      rw [pk_us]
      exact sh_Ch_upd (hm r) (F.1 r hr)
    · rw [sh_L_f (fun z => c z.2), pk_un (fun z => c z.symm)]
      exact sh_Ch_upd (hm r) (F.1 r hr)
  · unfold sh_EdA
    by_cases c : e = b
    · subst c
      simp only [pk_us]
      exact hEd
    · simp only [pk_un c]
      exact F.2 e (by omega) h2
end
section
variable {ds cn ac cu : Int32} {dX dY dP xs ys sz sx sy sc bk nx lr co re st sr he av ow ms : Nat → Int32} {cnt : Nat}
theorem xa_84 {post : SX → Prop} {e l X1 X2 Y1 Y2 s : Nat} {x5 z : Int32} (h48 : e < 48) (hl : l < 48) (hY : Y1 < Y2) (hY2 : Y2 ≤ 12) (hX1 : X1 ≤ 24) (hX2 : X2 ≤ 24)
    (hyl : ys l = nI Y2) (hs : s < 2 * (Y2 - Y1)) (hsr : 2 * (x5 - z * nI (Y2 - Y1)) = nI s) (g1 : -100 ≤ z.toInt) (g2 : z.toInt ≤ 100)
    (g3 : z.toInt * ((2 * (Y2 - Y1) : Nat) : Int) + s = 2 * (X2 : Int) - 2 * (X1 : Int))
    (h : ∀ vlr vco vre vst vsr vhe : Int32, sh_Ed X1 X2 Y1 Y2 Y1 vlr vco vre vst vsr vhe →
      post (ds, cn, ac, cu, dX, dY, dP, xs, ys, sz, sx, sy, sc, upd bk Y1 (nI e), upd nx e (bk Y1), upd lr e vlr, upd co e vco, upd re e vre, upd st e vst, upd sr e vsr, upd he e vhe, av, ow, ms)) :
    wX_prepare_84 post (nI e) (nI l) (nI (Y2 - Y1)) x5 (nI Y1) (nI (sh_K X1 X2 (Y2 - Y1) (Y1 - Y1))) z ds cn ac cu dX dY dP xs ys sz sx sy sc bk nx lr co re st sr he av ow ms := by
  unfold wX_prepare_84
  have hK := sh_K_lt (h := Y2 - Y1) (t := Y1 - Y1) hX1 hX2 (by omega)
  have e1 : nI Y2 - 1 = nI (Y2 - 1) := pk_sub (a := Y2) (b := 1) (by omega)
  rw [nI_clamp (show e < 2 ^ 31 by omega), nI_clamp (show l < 2 ^ 31 by omega), nI_clamp (show Y1 < 2 ^ 31 by omega), hyl, hsr, sh_2n,
    pk_rem (by omega) (by omega) (by omega), pk_div (by omega) (by omega) (by omega), e1]
  have i1 : vp_in (nI e) 48 := vp_in_nI h48 (by omega)
  have i2 : vp_in (nI l) 48 := vp_in_nI hl (by omega)
  have i3 : vp_in (nI Y1) 12 := vp_in_nI (by omega) (by omega)
  have n0 : ¬ nI (2 * (Y2 - Y1)) = 0 := nI_ne0 (by omega) (by omega)
  exact ⟨i1, nm_e ⟨n0, i1, nm_e ⟨n0, i1, nm_e ⟨i1, nm_e ⟨i1, nm_e ⟨i2, i1, nm_e ⟨i3, i1, nm_e ⟨i3, nm_e (h _ _ _ _ _ _ ⟨rfl, rfl, rfl, rfl, s, hs, rfl, g1, g2, g3⟩)⟩⟩⟩⟩⟩⟩⟩⟩
theorem xa_start {X1 X2 h : Nat} (h0 : 0 < h) (hh : h ≤ 12) (hX1 : X1 ≤ 24) (hX2 : X2 ≤ 24) {w : Int32} (hw : w.toInt = (X2 : Int) - X1) {t : Nat} (ht : t = 0) :
    ((((2 * nI X1) * nI h) + w) + nI h) - 1 = nI (sh_K X1 X2 h t) := by
  subst ht
  have hK := sh_K_lt (h := h) (t := 0) hX1 hX2 (by omega)
  have hI := sh_K_int (x1 := X1) (x2 := X2) (h := h) (t := 0) h0
  have hm : X1 * h ≤ 24 * 12 := Nat.mul_le_mul hX1 hh
  have e0 : ((X1 * h : Nat) : Int) = (X1 : Int) * h := by push_cast; rfl
  apply sh_eqI _ (by omega)
  rw [sh_2n, pk_mul, Nat.mul_assoc]
  have a1 : (nI (2 * (X1 * h))).toInt = ((2 * (X1 * h) : Nat) : Int) := nI_toInt (by omega)
  have a2 := sh_add a1 hw (by omega) (by omega)
  have a3 := sh_add a2 (nI_toInt (show h < 2 ^ 31 by omega)) (by omega) (by omega)
  have a4 := sh_sub a3 (show (1 : Int32).toInt = 1 by decide) (by omega) (by omega)
  rw [a4, hI, ← e0]
  omega
theorem xa_prep {post : SX → Prop} {e t l X1 X2 Y1 Y2 : Nat} (h48 : e < 48) (ht : t < 48) (hl : l < 48) (hY : Y1 < Y2) (hY2 : Y2 ≤ 12) (hX1 : X1 ≤ 24) (hX2 : X2 ≤ 24)
    (hyt : ys t = nI Y1) (hyl : ys l = nI Y2) (hxt : xs t = nI X1) (hxl : xs l = nI X2)
    (h : ∀ vlr vco vre vst vsr vhe : Int32, sh_Ed X1 X2 Y1 Y2 Y1 vlr vco vre vst vsr vhe →
      post (ds, cn, ac, cu, dX, dY, dP, xs, ys, sz, sx, sy, sc, upd bk Y1 (nI e), upd nx e (bk Y1), upd lr e vlr, upd co e vco, upd re e vre, upd st e vst, upd sr e vsr, upd he e vhe, av, ow, ms)) :
    wpX_prepare post (ds, cn, ac, cu, dX, dY, dP, xs, ys, sz, sx, sy, sc, bk, nx, lr, co, re, st, sr, he, av, ow, ms) (nI e) (nI t) (nI l) := by
  unfold wpX_prepare
  dsimp only
  rw [nI_clamp (show t < 2 ^ 31 by omega), nI_clamp (show l < 2 ^ 31 by omega), hyt, hyl, hxt, hxl]
  have it : vp_in (nI t) 48 := vp_in_nI ht (by omega)
  have il : vp_in (nI l) 48 := vp_in_nI hl (by omega)
  have n0 : ¬ nI (Y2 - Y1) = 0 := nI_ne0 (by omega) (by omega)
  by_cases c : X2 < X1
  · obtain ⟨s, z, k1, k2, k3, k4, k5, k6⟩ := sh_grow_neg (a := X1 - X2) (h := Y2 - Y1) (by omega) (by omega) (by omega)
    have ew : nI X2 - nI X1 = -nI (X1 - X2) := by rw [← pk_sub (show X2 ≤ X1 by omega), Int32.neg_sub]
    have hw : (-nI (X1 - X2)).toInt = (X2 : Int) - X1 := by rw [sb_negT (by omega)]; omega
    refine ⟨il, it, nm_r (pk_sub (by omega)) ⟨il, it, nm_r ew ⟨it, nm_e ⟨it, nm_r (xa_start (by omega) (by omega) hX1 hX2 hw (Nat.sub_self Y1)) (br_t ?_ ⟨n0, ?_⟩)⟩⟩⟩⟩
    · rw [← ew]; exact pk_sneg (by omega) c
    · rw [Int32.neg_neg, k2]
      exact xa_84 h48 hl hY hY2 hX1 hX2 hyl k1 k3 k4 k5 (by omega) h
  · obtain ⟨s, k1, k2, k3, k4, k5, k6⟩ := sh_grow_pos (a := X2 - X1) (h := Y2 - Y1) (by omega) (by omega) (by omega)
    have ew : nI X2 - nI X1 = nI (X2 - X1) := pk_sub (by omega)
    have hw : (nI (X2 - X1)).toInt = (X2 : Int) - X1 := by rw [nI_toInt (by omega)]; omega
    refine ⟨il, it, nm_r (pk_sub (by omega)) ⟨il, it, nm_r ew ⟨it, nm_e ⟨it, nm_r (xa_start (by omega) (by omega) hX1 hX2 hw (Nat.sub_self Y1)) (br_f (nI_pos (by omega)) ⟨n0, ?_⟩)⟩⟩⟩⟩
    rw [k2]
    exact xa_84 h48 hl hY hY2 hX1 hX2 hyl k1 k3 k4 k5 (by omega) h
theorem xa_prepE {post : SX → Prop} {e t l : Nat} (H : sh_Ok cnt xs ys sz) (hE : sh_E cnt ys sz e = true) (ht : sh_tp ys sz e = t) (hl : sh_lo ys sz e = l)
    (F : sh_Fill cnt xs ys sz e bk nx lr co re st sr he) (h : ∀ bk nx lr co re st sr he : Nat → Int32, sh_Fill cnt xs ys sz (e + 1) bk nx lr co re st sr he → post (ds, cn, ac, cu, dX, dY, dP, xs, ys, sz, sx, sy, sc, bk, nx, lr, co, re, st, sr, he, av, ow, ms)) :
    wpX_prepare post (ds, cn, ac, cu, dX, dY, dP, xs, ys, sz, sx, sy, sc, bk, nx, lr, co, re, st, sr, he, av, ow, ms) (nI e) (nI t) (nI l) := by
  subst ht hl
  obtain ⟨h48, _, _, ⟨a0, a1, a2, a3, a4⟩, ⟨b0, b1, b2, b3, b4⟩, hlt⟩ := sh_E_pts H hE
  exact xa_prep h48 a0 b0 hlt b4 a2 b2 a3 b3 a1 b1 (fun vlr vco vre vst vsr vhe hEd => h _ _ _ _ _ _ _ _ (sh_Fill_add hE h48 F hEd))
theorem xa_73 {post : SX → Prop} {J23 J33 : Int32 → Int32 → Int32 → Int32 → Int32 → (Nat → Int32) → (Nat → Int32) → (Nat → Int32) → (Nat → Int32) → (Nat → Int32) → (Nat → Int32) → (Nat → Int32) → (Nat → Int32) → (Nat → Int32) → (Nat → Int32) → (Nat → Int32) → (Nat → Int32) → (Nat → Int32) → (Nat → Int32) → (Nat → Int32) → (Nat → Int32) → (Nat → Int32) → (Nat → Int32) → (Nat → Int32) → (Nat → Int32) → Prop}
    {p k zz : Nat} (H : sh_Ok cnt xs ys sz) (hp : p < cnt) (hk : k < sh_cl sz p) (hz : 8 * p + zz = sh_to sz (8 * p + k)) (F : sh_Fill cnt xs ys sz (8 * p + k) bk nx lr co re st sr he)
    (hJ : ∀ bk nx lr co re st sr he : Nat → Int32, sh_Fill cnt xs ys sz (8 * p + k + 1) bk nx lr co re st sr he → J33 (nI (k + 1)) ds cn ac cu dX dY dP xs ys sz sx sy sc bk nx lr co re st sr he av ow ms) :
    wX_fillBuckets_73 post J23 J33 (nI p) (nI k) (nI (8 * p + k)) (nI zz) (nI (8 * p)) ds cn ac cu dX dY dP xs ys sz sx sy sc bk nx lr co re st sr he av ow ms := by
  have h8 := (H.2 p hp).2.1
  have h1 : (8 * p + k) / 8 < cnt := by omega
  have h2 : (8 * p + k) % 8 < sh_cl sz ((8 * p + k) / 8) := by
    rw [show (8 * p + k) / 8 = p by omega, show (8 * p + k) % 8 = k by omega]
    exact hk
  obtain ⟨a0, a1, a2, a3, a4⟩ := sh_ok_e H h1 h2
  obtain ⟨b0, b1, b2, b3, b4⟩ := sh_ok_to H h1 h2
  have hE : ∀ b : Bool, (sh_E cnt ys sz (8 * p + k) = b ↔ decide (sh_cl ys (8 * p + k) ≠ sh_cl ys (sh_to sz (8 * p + k))) = b) := by
    intro b
    have e : sh_E cnt ys sz (8 * p + k) = decide (sh_cl ys (8 * p + k) ≠ sh_cl ys (sh_to sz (8 * p + k))) := by
      unfold sh_E
      exact decide_eq_decide.mpr ⟨fun h => h.2.2, fun h => ⟨h1, h2, h⟩⟩
    rw [e]
  unfold wX_fillBuckets_73
  refine nm_r (e' := nI (sh_to sz (8 * p + k))) (by rw [nI_add, hz]) ?_
  have ia : vp_in (nI (8 * p + k)) 48 := vp_in_nI a0 (by omega)
  have ib : vp_in (nI (sh_to sz (8 * p + k))) 48 := vp_in_nI b0 (by omega)
  rw [nI_clamp (show 8 * p + k < 2 ^ 31 by omega), nI_clamp (show sh_to sz (8 * p + k) < 2 ^ 31 by omega), a3, b3]
  refine ⟨ia, ib, ?_⟩
  rcases Nat.lt_trichotomy (sh_cl ys (8 * p + k)) (sh_cl ys (sh_to sz (8 * p + k))) with c | c | c
  · refine br_f (nI_ge c (by omega)) (xa_prepE H ((hE true).mpr (decide_eq_true (by omega))) (if_pos c) (if_pos c) F (fun bk nx lr co re st sr he G => ?_))
    exact nm_r (nI_1 k) (hJ bk nx lr co re st sr he G)
  · refine br_t (nI_le (by omega) (by omega)) ⟨ia, ib, br_t (nI_le (by omega) (by omega)) (nm_r (nI_1 k) (hJ _ _ _ _ _ _ _ _ (sh_Fill_1 ((hE false).mpr (decide_eq_false (fun z => z c))) F)))⟩
  · refine br_t (nI_le (by omega) (by omega)) ⟨ia, ib, br_f (nI_ge c (by omega)) (xa_prepE H ((hE true).mpr (decide_eq_true (by omega))) (if_neg (by omega)) (if_neg (by omega)) F (fun bk nx lr co re st sr he G => ?_))⟩
    exact nm_r (nI_1 k) (hJ bk nx lr co re st sr he G)
theorem xa_33 {post : SX → Prop} {J23 : Int32 → Int32 → Int32 → Int32 → Int32 → (Nat → Int32) → (Nat → Int32) → (Nat → Int32) → (Nat → Int32) → (Nat → Int32) → (Nat → Int32) → (Nat → Int32) → (Nat → Int32) → (Nat → Int32) → (Nat → Int32) → (Nat → Int32) → (Nat → Int32) → (Nat → Int32) → (Nat → Int32) → (Nat → Int32) → (Nat → Int32) → (Nat → Int32) → (Nat → Int32) → (Nat → Int32) → (Nat → Int32) → Prop}
    {p : Nat} (H : sh_Ok cnt xs ys sz) (hp : p < cnt)
    (hJ : ∀ bk nx lr co re st sr he : Nat → Int32, sh_Fill cnt xs ys sz (8 * p + sh_cl sz p) bk nx lr co re st sr he → J23 (nI (p + 1)) ds cn ac cu dX dY dP xs ys sz sx sy sc bk nx lr co re st sr he av ow ms) :
    ∀ (m k n : Nat) (bk nx lr co re st sr he : Nat → Int32), k + m = sh_cl sz p → m < n → sh_Fill cnt xs ys sz (8 * p + k) bk nx lr co re st sr he → wX_fillBuckets_33 post J23 (nI p) n (nI k) ds cn ac cu dX dY dP xs ys sz sx sy sc bk nx lr co re st sr he av ow ms := by
  have h6 := H.1
  obtain ⟨hs, h8, _⟩ := H.2 p hp
  have ip : vp_in (nI p) 6 := vp_in_nI (by omega) (by omega)
  intro m
  induction m with
  | zero =>
    intro k n bk nx lr co re st sr he hk hn F
    obtain ⟨n, rfl⟩ : ∃ n', n = n' + 1 := ⟨n - 1, by omega⟩
    rw [wX_fillBuckets_33]
    dsimp only
    rw [nI_clamp (show p < 2 ^ 31 by omega), hs]
    rw [show k = sh_cl sz p by omega] at F
    exact ⟨ip, br_t (nI_le (by omega) (by omega)) (nm_r (nI_1 p) (hJ _ _ _ _ _ _ _ _ F))⟩
  | succ m ih =>
    intro k n bk nx lr co re st sr he hk hn F
    obtain ⟨n, rfl⟩ : ∃ n', n = n' + 1 := ⟨n - 1, by omega⟩
    rw [wX_fillBuckets_33]
    dsimp only
    rw [nI_clamp (show p < 2 ^ 31 by omega), hs]
    refine ⟨ip, br_f (nI_ge (by omega) (by omega)) (nm_r (sh_8k p k) ⟨ip, ?_⟩)⟩
    rw [sh_8n, nI_1]
    have hto : sh_to sz (8 * p + k) = 8 * p + (if k + 1 < sh_cl sz p then k + 1 else 0) := by
      unfold sh_to
      rw [show (8 * p + k) / 8 = p by omega, show (8 * p + k) % 8 = k by omega]
    by_cases c : sh_cl sz p ≤ k + 1
    · rw [if_neg (by omega)] at hto
      exact br_t (nI_le c (by omega)) (xa_73 (zz := 0) H hp (by omega) hto.symm F (fun bk nx lr co re st sr he G => ih (k + 1) n bk nx lr co re st sr he (by omega) (by omega) G))
    · rw [if_pos (by omega)] at hto
      exact br_f (nI_ge (by omega) (by omega)) (xa_73 (zz := k + 1) H hp (by omega) hto.symm F (fun bk nx lr co re st sr he G => ih (k + 1) n bk nx lr co re st sr he (by omega) (by omega) G))
theorem xa_23 {post : SX → Prop} (H : sh_Ok cnt xs ys sz)
    (h : ∀ bk nx lr co re st sr he : Nat → Int32, sh_Fill cnt xs ys sz (8 * cnt) bk nx lr co re st sr he → post (ds, nI cnt, ac, cu, dX, dY, dP, xs, ys, sz, sx, sy, sc, bk, nx, lr, co, re, st, sr, he, av, ow, ms)) :
    ∀ (m p n : Nat) (bk nx lr co re st sr he : Nat → Int32), p + m = cnt → m < n → sh_Fill cnt xs ys sz (8 * p) bk nx lr co re st sr he → wX_fillBuckets_23 post n (nI p) ds (nI cnt) ac cu dX dY dP xs ys sz sx sy sc bk nx lr co re st sr he av ow ms := by
  have h6 := H.1
  intro m
  induction m with
  | zero =>
    intro p n bk nx lr co re st sr he hk hn F
    obtain ⟨n, rfl⟩ : ∃ n', n = n' + 1 := ⟨n - 1, by omega⟩
    rw [wX_fillBuckets_23]
    rw [show p = cnt by omega] at F
    exact br_t (nI_le (by omega) (by omega)) (h _ _ _ _ _ _ _ _ F)
  | succ m ih =>
    intro p n bk nx lr co re st sr he hk hn F
    obtain ⟨n, rfl⟩ : ∃ n', n = n' + 1 := ⟨n - 1, by omega⟩
    rw [wX_fillBuckets_23]
    have h8 := (H.2 p (by omega)).2.1
    refine br_f (nI_ge (by omega) (by omega)) ⟨sh_cl sz p + 1, xa_33 (p := p) H (by omega) (fun bk nx lr co re st sr he G => ?_) (sh_cl sz p) 0 _ bk nx lr co re st sr he (by omega) (by omega) F⟩
    refine ih (p + 1) n bk nx lr co re st sr he (by omega) (by omega) ?_
    rw [show 8 * (p + 1) = (8 * p + sh_cl sz p) + (8 - sh_cl sz p) by omega]
    refine sh_Fill_skip (fun e h1 h2 => ?_) G
    unfold sh_E
    refine decide_eq_false (fun z => ?_)
    have z2 := z.2.1
    rw [show e / 8 = p by omega] at z2
    omega
theorem xa_2 {post : SX → Prop} (h : ∀ bk : Nat → Int32, (∀ r, r < 12 → bk r = -1) → ∃ n, wX_fillBuckets_23 post n 0 ds cn ac cu dX dY dP xs ys sz sx sy sc bk nx lr co re st sr he av ow ms) :
    ∀ (m i n : Nat) (bk : Nat → Int32), i + m = 12 → m < n → (∀ r, r < i → bk r = -1) → wX_fillBuckets_2 post ds cn ac cu n (nI i) dX dY dP xs ys sz sx sy sc bk nx lr co re st sr he av ow ms := by
  intro m
  induction m with
  | zero =>
    intro i n bk hi hn hb
    obtain ⟨n, rfl⟩ : ∃ n', n = n' + 1 := ⟨n - 1, by omega⟩
    rw [wX_fillBuckets_2]
    exact br_t (nI_le (a := 12) (by omega) (by omega)) (h bk (fun r hr => hb r (by omega)))
  | succ m ih =>
    intro i n bk hi hn hb
    obtain ⟨n, rfl⟩ : ∃ n', n = n' + 1 := ⟨n - 1, by omega⟩
    rw [wX_fillBuckets_2]
    dsimp only
    rw [nI_clamp (show i < 2 ^ 31 by omega)]
    refine br_f (nI_ge (b := 12) (by omega) (by omega)) ⟨vp_in_nI (by omega) (by omega), nm_e (nm_r (nI_1 i) (ih (i + 1) n _ (by omega) (by omega) (fun r hr => ?_)))⟩
    by_cases c : r = i
    · rw [c, pk_us]
    · rw [pk_un c]; exact hb r (by omega)
theorem xa_fill {post : SX → Prop} (H : sh_Ok cnt xs ys sz)
    (h : ∀ bk nx lr co re st sr he : Nat → Int32, sh_Fill cnt xs ys sz 48 bk nx lr co re st sr he → post (ds, nI cnt, ac, cu, dX, dY, dP, xs, ys, sz, sx, sy, sc, bk, nx, lr, co, re, st, sr, he, av, ow, ms)) : wpX_fillBuckets post (ds, nI cnt, ac, cu, dX, dY, dP, xs, ys, sz, sx, sy, sc, bk, nx, lr, co, re, st, sr, he, av, ow, ms) := by
  have h6 := H.1
  unfold wpX_fillBuckets
  dsimp only
  refine ⟨13, xa_2 (fun bk hb => ⟨cnt + 1, ?_⟩) 12 0 13 bk (by omega) (by omega) (fun r hr => absurd hr (by omega))⟩
  refine xa_23 H (fun bk nx lr co re st sr he G => h bk nx lr co re st sr he ?_) cnt 0 (cnt + 1) bk nx lr co re st sr he (by omega) (by omega) ⟨fun r hr => hb r hr, fun e h1 => absurd h1 (by omega)⟩
  rw [show 48 = 8 * cnt + (48 - 8 * cnt) by omega]
  refine sh_Fill_skip (fun e h1 h2 => ?_) G
  unfold sh_E
  exact decide_eq_false (fun z => by have := z.1; omega)
end
end
section
/-! the active edges as a list; a row's coverage -/
def sh_At (av : Nat → Int32) : List Nat → Nat → Prop
  | [], _ => True
  | e :: l, k => av k = nI e ∧ sh_At av l (k + 1)
theorem sh_At_hi {av : Nat → Int32} {q : Nat} {v : Int32} : ∀ {l : List Nat} {k : Nat}, k + l.length ≤ q → sh_At av l k → sh_At (upd av q v) l k := by
  intro l
  induction l with
  | nil => intro k _ _; trivial
  | cons a l ih =>
    intro k hq h
    rw [List.length_cons] at hq
    exact ⟨by rw [pk_un (by omega)]; exact h.1, ih (by omega) h.2⟩
theorem sh_At_lo {av : Nat → Int32} {q : Nat} {v : Int32} : ∀ {l : List Nat} {k : Nat}, q < k → sh_At av l k → sh_At (upd av q v) l k := by
  intro l
  induction l with
  | nil => intro k _ _; trivial
  | cons a l ih =>
    intro k hq h
    exact ⟨by rw [pk_un (by omega)]; exact h.1, ih (by omega) h.2⟩
theorem sh_At_snoc {av : Nat → Int32} {e : Nat} : ∀ {l : List Nat} {k : Nat}, sh_At av l k → av (k + l.length) = nI e → sh_At av (l ++ [e]) k := by
  intro l
  induction l with
  | nil => intro k _ h; exact ⟨h, trivial⟩
  | cons a l ih =>
    intro k h h2
    refine ⟨h.1, ih h.2 ?_⟩
    rw [List.length_cons, show k + (l.length + 1) = k + 1 + l.length by omega] at h2
    exact h2
theorem sh_At_put {av : Nat → Int32} {e : Nat} {l : List Nat} (h : sh_At av l 0) : sh_At (upd av l.length (nI e)) (l ++ [e]) 0 :=
  sh_At_snoc (sh_At_hi (by omega) h) (by rw [Nat.zero_add, pk_us])
theorem sh_snoc_len (l : List Nat) (e : Nat) : (l ++ [e]).length = l.length + 1 := by
  rw [List.length_append]; rfl
theorem sh_bt1 : ∀ q, q < 6 → ∀ p, p < 6 → bt ((1 : Int32) <<< (nI q &&& 31)) p = decide (q = p) := by decide +kernel
section
variable {ds cn ac cu : Int32} {dX dY dP xs ys sz sx sy sc bk nx lr co re st sr he av ow ms : Nat → Int32} {cnt : Nat}
theorem xb_9 {post : SX → Prop} : ∀ (l AL : List Nat) (b : Int32) (t n : Nat) (av : Nat → Int32), sh_Ch nx l b → t + l.length ≤ 48 → AL.length + l.length ≤ 48 → l.length < n → sh_At av AL 0 →
    (∀ av : Nat → Int32, sh_At av (AL ++ l) 0 → post (ds, cn, nI (AL ++ l).length, cu, dX, dY, dP, xs, ys, sz, sx, sy, sc, bk, nx, lr, co, re, st, sr, he, av, ow, ms)) → wX_admit_9 post ds cn cu n b (nI t) (nI AL.length) dX dY dP xs ys sz sx sy sc bk nx lr co re st sr he av ow ms := by
  intro l
  induction l with
  | nil =>
    intro AL b t n av hc ht hl hn hA h
    obtain ⟨n, rfl⟩ : ∃ n', n = n' + 1 := ⟨n - 1, by omega⟩
    rw [wX_admit_9]
    rw [List.append_nil] at h
    exact br_c (fun _ => h av hA) (fun _ => br_t hc (h av hA))
  | cons e l ih =>
    intro AL b t n av hc ht hl hn hA h
    rw [List.length_cons] at ht hl hn
    obtain ⟨n, rfl⟩ : ∃ n', n = n' + 1 := ⟨n - 1, by omega⟩
    obtain ⟨rfl, h48, hc⟩ := hc
    rw [wX_admit_9]
    dsimp only
    rw [nI_clamp (show e < 2 ^ 31 by omega), nI_clamp (show AL.length < 2 ^ 31 by omega)]
    have hne : ¬ nI e = -1 := by
      intro z
      have z2 := congrArg Int32.toInt z
      rw [nI_toInt (by omega), show (-1 : Int32).toInt = -1 by decide] at z2
      omega
    refine br_f (nI_ge (b := 48) (by omega) (by omega)) (br_f hne ⟨vp_in_nI (by omega) (by omega), nm_e (nm_r (e' := nI (AL ++ [e]).length) (by rw [nI_1, sh_snoc_len]) ⟨vp_in_nI h48 (by omega), nm_e (nm_r (nI_1 t) ?_)⟩)⟩)
    refine ih (AL ++ [e]) _ (t + 1) n _ hc (by omega) (by rw [sh_snoc_len]; omega) (by omega) (sh_At_put hA) ?_
    rw [List.append_assoc]
    exact h
theorem xb_admit {post : SX → Prop} {j : Nat} {AL l : List Nat} (hj : j < 12) (hc : sh_Ch nx l (bk j)) (hl : AL.length + l.length ≤ 48) (hA : sh_At av AL 0)
    (h : ∀ av : Nat → Int32, sh_At av (AL ++ l) 0 → post (ds, cn, nI (AL ++ l).length, cu, dX, dY, dP, xs, ys, sz, sx, sy, sc, bk, nx, lr, co, re, st, sr, he, av, ow, ms)) : wpX_admit post (ds, cn, nI AL.length, cu, dX, dY, dP, xs, ys, sz, sx, sy, sc, bk, nx, lr, co, re, st, sr, he, av, ow, ms) (nI j) := by
  unfold wpX_admit
  dsimp only
  rw [nI_clamp (show j < 2 ^ 31 by omega)]
  exact ⟨vp_in_nI hj (by omega), nm_e ⟨l.length + 1, xb_9 l AL _ 0 _ av hc (by omega) hl (by omega) hA h⟩⟩
def sh_F (co : Nat → Int32) (p a e : Nat) : Bool := decide (sh_cl co e = a) && decide (e / 8 = p)
def sh_G (co : Nat → Int32) (p a e : Nat) : Bool := decide (sh_cl co e ≤ a) && decide (e / 8 = p)
theorem sh_FG0 (p e : Nat) : sh_F co p 0 e = sh_G co p 0 e := by
  unfold sh_F sh_G
  exact congrArg (· && decide (e / 8 = p)) (decide_eq_decide.mpr (by omega))
theorem sh_FG {i : Nat} (p e : Nat) (hi : 0 < i) : (sh_F co p i e ^^ sh_G co p (i - 1) e) = sh_G co p i e := by
  unfold sh_F sh_G
  generalize sh_cl co e = c
  cases decide (e / 8 = p)
  · simp
  · simp only [Bool.and_true]
    rcases Nat.lt_trichotomy c i with h | h | h
    · rw [decide_eq_false (show ¬ c = i by omega), decide_eq_true (show c ≤ i - 1 by omega), decide_eq_true (show c ≤ i by omega)]; rfl
    · rw [decide_eq_true (show c = i by omega), decide_eq_false (show ¬ c ≤ i - 1 by omega), decide_eq_true (show c ≤ i by omega)]; rfl
    · rw [decide_eq_false (show ¬ c = i by omega), decide_eq_false (show ¬ c ≤ i - 1 by omega), decide_eq_false (show ¬ c ≤ i by omega)]; rfl
theorem xb_102 {post : SX → Prop} {j : Nat} {AL : List Nat} {ms0 : Nat → Int32} (hj : j < 12)
    (h : ∀ ms : Nat → Int32, (∀ a, a < 24 → ∀ p, p < 6 → bt (ms (24 * j + a)) p = sh_xl (sh_G co p a) AL) → (∀ q, q < 24 * j → ms q = ms0 q) → post (ds, cn, ac, cu, dX, dY, dP, xs, ys, sz, sx, sy, sc, bk, nx, lr, co, re, st, sr, he, av, ow, ms)) :
    ∀ (m i n : Nat) (ms : Nat → Int32), i + m = 24 → 0 < i → m < n → (∀ a, a < i → ∀ p, p < 6 → bt (ms (24 * j + a)) p = sh_xl (sh_G co p a) AL) →
      (∀ a, i ≤ a → a < 24 → ∀ p, p < 6 → bt (ms (24 * j + a)) p = sh_xl (sh_F co p a) AL) → (∀ q, q < 24 * j → ms q = ms0 q) → wX_coverRow_102 post (nI (24 * j)) ds cn ac cu n (nI i) dX dY dP xs ys sz sx sy sc bk nx lr co re st sr he av ow ms := by
  intro m
  induction m with
  | zero =>
    intro i n ms hi h0 hn h1 h2 h3
    obtain ⟨n, rfl⟩ : ∃ n', n = n' + 1 := ⟨n - 1, by omega⟩
    rw [wX_coverRow_102]
    exact br_t (nI_le (a := 24) (by omega) (by omega)) (h ms (fun a ha => h1 a (by omega)) h3)
  | succ m ih =>
    intro i n ms hi h0 hn h1 h2 h3
    obtain ⟨n, rfl⟩ : ∃ n', n = n' + 1 := ⟨n - 1, by omega⟩
    have e1 : nI (24 * j + i) - 1 = nI (24 * j + (i - 1)) := by
      rw [show 24 * j + i = (24 * j + (i - 1)) + 1 by omega, nI_pred]
    rw [wX_coverRow_102]
    dsimp only
    rw [nI_add, e1, nI_clamp (show 24 * j + i < 2 ^ 31 by omega), nI_clamp (show 24 * j + (i - 1) < 2 ^ 31 by omega)]
    have i1 : vp_in (nI (24 * j + i)) 288 := vp_in_nI (by omega) (by omega)
    have i2 : vp_in (nI (24 * j + (i - 1))) 288 := vp_in_nI (by omega) (by omega)
    refine br_f (nI_ge (b := 24) (by omega) (by omega)) ⟨i1, i2, i1, nm_e (nm_r (nI_1 i) (ih (i + 1) n _ (by omega) (by omega) (by omega) (fun a ha p hp => ?_) (fun a ha1 ha2 p hp => ?_) (fun q hq => ?_)))⟩
    · by_cases c : a = i
      · subst c
        rw [pk_us, b_xor, h2 a (by omega) (by omega) p hp, h1 (a - 1) (by omega) p hp, ← sh_xl_xor]
        exact sh_xl_congr AL (fun e _ => sh_FG p e h0)
      · rw [pk_un (by omega)]; exact h1 a (by omega) p hp
    · rw [pk_un (by omega)]; exact h2 a (by omega) ha2 p hp
    · rw [pk_un (by omega)]; exact h3 q hq
theorem xb_30 {post : SX → Prop} {j : Nat} {ms0 : Nat → Int32} (hj : j < 12) :
    ∀ (rest dn : List Nat) (T n : Nat) (ms : Nat → Int32), dn.length + rest.length = T → T ≤ 48 → rest.length < n → sh_At av rest dn.length →
      (∀ e, e ∈ rest → e < 48 ∧ co e = nI (sh_cl co e) ∧ sh_cl co e ≤ 24) →
      (∀ a, a < 24 → ∀ p, p < 6 → bt (ms (24 * j + a)) p = sh_xl (sh_F co p a) dn) → (∀ q, q < 24 * j → ms q = ms0 q) →
      (∀ ms : Nat → Int32, (∀ a, a < 24 → ∀ p, p < 6 → bt (ms (24 * j + a)) p = sh_xl (sh_F co p a) (dn ++ rest)) → (∀ q, q < 24 * j → ms q = ms0 q) →
        ∃ n, wX_coverRow_102 post (nI (24 * j)) ds cn (nI T) cu n 1 dX dY dP xs ys sz sx sy sc bk nx lr co re st sr he av ow ms) → wX_coverRow_30 post (nI (24 * j)) ds cn (nI T) cu n (nI dn.length) dX dY dP xs ys sz sx sy sc bk nx lr co re st sr he av ow ms := by
  intro rest
  induction rest with
  | nil =>
    intro dn T n ms hT h48 hn hA hC h1 h2 h
    obtain ⟨n, rfl⟩ : ∃ n', n = n' + 1 := ⟨n - 1, by omega⟩
    rw [wX_coverRow_30]
    rw [List.append_nil] at h
    rw [List.length_nil] at hT
    exact br_t (nI_le (by omega) (by omega)) (h ms h1 h2)
  | cons e rest ih =>
    intro dn T n ms hT h48 hn hA hC h1 h2 h
    rw [List.length_cons] at hT hn
    obtain ⟨n, rfl⟩ : ∃ n', n = n' + 1 := ⟨n - 1, by omega⟩
    obtain ⟨hav, hA⟩ := hA
    obtain ⟨c1, c2, c3⟩ := hC e List.mem_cons_self
    rw [wX_coverRow_30]
    dsimp only
    rw [nI_clamp (show dn.length < 2 ^ 31 by omega)]
    have ie : vp_in (nI e) 48 := vp_in_nI c1 (by omega)
    refine br_f (nI_ge (by omega) (by omega)) ⟨vp_in_nI (by omega) (by omega), nm_r hav ⟨ie, ?_⟩⟩
    rw [nI_clamp (show e < 2 ^ 31 by omega), c2]
    have go : ∀ ms : Nat → Int32, (∀ a, a < 24 → ∀ p, p < 6 → bt (ms (24 * j + a)) p = sh_xl (sh_F co p a) (dn ++ [e])) → (∀ q, q < 24 * j → ms q = ms0 q) →
        wX_coverRow_30 post (nI (24 * j)) ds cn (nI T) cu n (nI (dn.length + 1)) dX dY dP xs ys sz sx sy sc bk nx lr co re st sr he av ow ms := by
      intro ms k1 k2
      have g := ih (dn ++ [e]) T n ms (by rw [sh_snoc_len]; omega) h48 (by omega) (by rw [sh_snoc_len]; exact hA) (fun x hx => hC x (List.mem_cons_of_mem _ hx)) k1 k2 (by rw [List.append_assoc]; exact h)
      rw [sh_snoc_len] at g
      exact g
    by_cases c : 24 ≤ sh_cl co e
    · refine br_t (nI_le (a := 24) c (by omega)) (nm_r (nI_1 _) (go ms (fun a ha p hp => ?_) h2))
      rw [sh_xl_app, h1 a ha p hp, sh_xl_c]
      have e2 : sh_F co p a e = false := by
        unfold sh_F
        rw [decide_eq_false (by omega)]
        rfl
      rw [e2]
      simp [sh_xl]
    · have e8 : nI e / 8 = nI (e / 8) := pk_div (d := 8) (by omega) (by omega) (by omega)
      rw [nI_add, nI_clamp (show 24 * j + sh_cl co e < 2 ^ 31 by omega), e8]
      have im : vp_in (nI (24 * j + sh_cl co e)) 288 := vp_in_nI (by omega) (by omega)
      refine br_f (nI_ge (b := 24) (by omega) (by omega)) ⟨ie, ie, im, by decide, im, nm_e (nm_r (nI_1 _) (go _ (fun a ha p hp => ?_) (fun q hq => ?_)))⟩
      · rw [sh_xl_app, ← h1 a ha p hp, sh_xl_c]
        unfold sh_F
        by_cases d : sh_cl co e = a
        · rw [d, pk_us, b_xor, sh_bt1 (e / 8) (by omega) p hp, decide_eq_true (show a = a from rfl)]
          simp [sh_xl]
        · rw [pk_un (by omega), decide_eq_false d]
          simp [sh_xl]
      · rw [pk_un (by omega)]; exact h2 q hq
theorem xb_7 {post : SX → Prop} {j : Nat} {ms0 : Nat → Int32} (hj : j < 12)
    (h : ∀ ms : Nat → Int32, (∀ a, a < 24 → ms (24 * j + a) = 0) → (∀ q, q < 24 * j → ms q = ms0 q) → ∃ n, wX_coverRow_30 post (nI (24 * j)) ds cn ac cu n 0 dX dY dP xs ys sz sx sy sc bk nx lr co re st sr he av ow ms) :
    ∀ (m i n : Nat) (ms : Nat → Int32), i + m = 24 → m < n → (∀ a, a < i → ms (24 * j + a) = 0) → (∀ q, q < 24 * j → ms q = ms0 q) → wX_coverRow_7 post (nI (24 * j)) ds cn ac cu n (nI i) dX dY dP xs ys sz sx sy sc bk nx lr co re st sr he av ow ms := by
  intro m
  induction m with
  | zero =>
    intro i n ms hi hn h1 h2
    obtain ⟨n, rfl⟩ : ∃ n', n = n' + 1 := ⟨n - 1, by omega⟩
    rw [wX_coverRow_7]
    exact br_t (nI_le (a := 24) (by omega) (by omega)) (h ms (fun a ha => h1 a (by omega)) h2)
  | succ m ih =>
    intro i n ms hi hn h1 h2
    obtain ⟨n, rfl⟩ : ∃ n', n = n' + 1 := ⟨n - 1, by omega⟩
    rw [wX_coverRow_7]
    dsimp only
    rw [nI_add, nI_clamp (show 24 * j + i < 2 ^ 31 by omega)]
    refine br_f (nI_ge (b := 24) (by omega) (by omega)) ⟨vp_in_nI (by omega) (by omega), nm_e (nm_r (nI_1 i) (ih (i + 1) n _ (by omega) (by omega) (fun a ha => ?_) (fun q hq => ?_)))⟩
    · by_cases c : a = i
      · rw [c, pk_us]
      · rw [pk_un (by omega)]; exact h1 a (by omega)
    · rw [pk_un (by omega)]; exact h2 q hq
theorem xb_cover {post : SX → Prop} {j : Nat} {AL : List Nat} (hj : j < 12) (hA : sh_At av AL 0) (hl : AL.length ≤ 48) (hC : ∀ e, e ∈ AL → e < 48 ∧ co e = nI (sh_cl co e) ∧ sh_cl co e ≤ 24)
    (h : ∀ ms' : Nat → Int32, (∀ a, a < 24 → ∀ p, p < 6 → bt (ms' (24 * j + a)) p = sh_xl (sh_G co p a) AL) → (∀ q, q < 24 * j → ms' q = ms q) → post (ds, cn, nI AL.length, cu, dX, dY, dP, xs, ys, sz, sx, sy, sc, bk, nx, lr, co, re, st, sr, he, av, ow, ms')) :
    wpX_coverRow post (ds, cn, nI AL.length, cu, dX, dY, dP, xs, ys, sz, sx, sy, sc, bk, nx, lr, co, re, st, sr, he, av, ow, ms) (nI j) := by
  unfold wpX_coverRow
  dsimp only
  refine nm_r (sh_24n j) ⟨25, xb_7 (ms0 := ms) hj (fun ms1 k1 k2 => ⟨AL.length + 1, ?_⟩) 24 0 25 ms (by omega) (by omega) (fun a ha => absurd ha (by omega)) (fun q _ => rfl)⟩
  refine xb_30 (ms0 := ms) hj AL [] AL.length (AL.length + 1) ms1 (by rw [List.length_nil, Nat.zero_add]) hl (by omega) hA hC (fun a ha p hp => by rw [k1 a ha, b_0]; rfl) k2 (fun ms2 k3 k4 => ⟨24, ?_⟩)
  rw [List.nil_append] at k3
  refine xb_102 (AL := AL) (ms0 := ms) hj h 23 1 24 ms2 (by omega) (by omega) (by omega) (fun a ha p hp => ?_) (fun a _ ha p hp => k3 a ha p hp) k4
  rw [show a = 0 by omega, k3 0 (by omega) p hp]
  exact sh_xl_congr AL (fun e _ => sh_FG0 p e)
end
end
section
/-! the polygon in front, and until where -/
theorem sh_bit {x : Int32} {t : Nat} (ht : t < 32) : (x >>> (nI t &&& 31)) &&& 1 = sh_b (bt x t) := by
  apply b_ext
  intro i hi
  rw [b_and, b_sshr t ht x hi]
  by_cases c : i = 0
  · subst c
    rw [if_pos (by omega), Nat.add_zero, show bt 1 0 = true by decide, Bool.and_true]
    cases bt x t
    · exact (b_0 0).symm
    · rfl
  · have h1 : bt 1 i = false := (by decide +kernel : ∀ i, i < 32 → i ≠ 0 → bt 1 i = false) i hi c
    rw [h1, Bool.and_false]
    cases bt x t
    · exact (b_0 i).symm
    · exact h1.symm
theorem sh_fr_none {c : Nat → Bool} {d : Nat → Int} {n : Nat} (h : ∀ q, q < n → c q = false) : sh_fr c d n = none := by
  cases hf : sh_fr c d n with
  | none => rfl
  | some b =>
    obtain ⟨h1, h2, _⟩ := sh_fr_is hf
    rw [h b h1] at h2
    exact nomatch h2
def sh_Pl (cnt : Nat) (sx sy sc : Nat → Int32) : Prop := ∀ p, p < cnt → -30 ≤ (sx p).toInt ∧ (sx p).toInt ≤ 30 ∧ -30 ≤ (sy p).toInt ∧ (sy p).toInt ≤ 30 ∧ -3000 ≤ (sc p).toInt ∧ (sc p).toInt ≤ 3000
theorem sh_dI_eq {cnt : Nat} {sx sy sc : Nat → Int32} (P : sh_Pl cnt sx sy sc) {p i j : Nat} (hp : p < cnt) (hi : i < 24) (hj : j < 12) :
    sh_dI sx sy sc i j p = (sx p).toInt * (2 * (i : Int) + 1) + (sy p).toInt * (2 * (j : Int) + 1) + (sc p).toInt ∧ -9000 ≤ sh_dI sx sy sc i j p ∧ sh_dI sx sy sc i j p ≤ 9000 := by
  obtain ⟨a1, a2, b1, b2, c1, c2⟩ := P p hp
  have m1 := sh_mbd (x := (sx p).toInt) (y := ((2 * i + 1 : Nat) : Int)) 30 47 (by omega) (by omega) (by omega) (by omega)
  have m2 := sh_mbd (x := (sy p).toInt) (y := ((2 * j + 1 : Nat) : Int)) 30 23 (by omega) (by omega) (by omega) (by omega)
  have k1 := sh_mul (a := sx p) (b := nI (2 * i + 1)) rfl (nI_toInt (by omega)) (by omega) (by omega)
  have k2 := sh_mul (a := sy p) (b := nI (2 * j + 1)) rfl (nI_toInt (by omega)) (by omega) (by omega)
  have k3 := sh_add k1 k2 (by omega) (by omega)
  have k4 := sh_add k3 (rfl : (sc p).toInt = (sc p).toInt) (by omega) (by omega)
  have e : sh_dI sx sy sc i j p = (sx p).toInt * ((2 * i + 1 : Nat) : Int) + (sy p).toInt * ((2 * j + 1 : Nat) : Int) + (sc p).toInt := by
    unfold sh_dI sh_dp
    rw [sh_2i, sh_2i]
    exact k4
  rw [e]
  refine ⟨?_, by omega, by omega⟩
  push_cast
  rfl
theorem sh_dI_lin {cnt : Nat} {sx sy sc : Nat → Int32} (P : sh_Pl cnt sx sy sc) {p q i m j : Nat} (hp : p < cnt) (hq : q < cnt) (hi : i < 24) (hm : m < 24) (hj : j < 12) (him : i ≤ m) :
    sh_dI sx sy sc m j q - sh_dI sx sy sc m j p = (sh_dI sx sy sc i j q - sh_dI sx sy sc i j p) - 2 * (((sx p).toInt - (sx q).toInt) * ((m - i : Nat) : Int)) := by
  rw [(sh_dI_eq P hp hi hj).1, (sh_dI_eq P hq hi hj).1, (sh_dI_eq P hp hm hj).1, (sh_dI_eq P hq hm hj).1, show ((m - i : Nat) : Int) = (m : Int) - i by omega]
  grind
/-- q doesn't come ahead of p from i to b -/
def sh_Nb (sx sy sc : Nat → Int32) (i j p q b : Nat) : Prop := ∀ m, i ≤ m → m < b → (q < p → sh_dI sx sy sc m j p < sh_dI sx sy sc m j q) ∧ (p < q → sh_dI sx sy sc m j p ≤ sh_dI sx sy sc m j q)
theorem sh_Nb_neg {cnt : Nat} {sx sy sc : Nat → Int32} (P : sh_Pl cnt sx sy sc) {p q i b j : Nat} (hp : p < cnt) (hq : q < cnt) (hi : i < 24) (hb : b ≤ 24) (hj : j < 12)
    (h0 : (q < p → sh_dI sx sy sc i j p < sh_dI sx sy sc i j q) ∧ (p < q → sh_dI sx sy sc i j p ≤ sh_dI sx sy sc i j q)) (hg : (sx p).toInt - (sx q).toInt ≤ 0) : sh_Nb sx sy sc i j p q b := by
  intro m h1 h2
  have e := sh_dI_lin P hp hq hi (show m < 24 by omega) hj h1
  have z : 0 ≤ (-((sx p).toInt - (sx q).toInt)) * ((m - i : Nat) : Int) := Int.mul_nonneg (by omega) (by omega)
  rw [Int.neg_mul] at z
  generalize ((sx p).toInt - (sx q).toInt) * ((m - i : Nat) : Int) = w at *
  exact ⟨fun c => by have := h0.1 c; omega, fun c => by have := h0.2 c; omega⟩
section
variable {ds cn ac cu : Int32} {dX dY dP xs ys sz sx sy sc bk nx lr co re st sr he av ow ms : Nat → Int32} {cnt : Nat}
theorem xc_depth {post : Int32 → Prop} {p i j : Nat} (hp : p < 6) (h : post (sh_dp sx sy sc i j p)) : wpX_depth post (ds, cn, ac, cu, dX, dY, dP, xs, ys, sz, sx, sy, sc, bk, nx, lr, co, re, st, sr, he, av, ow, ms) (nI p) (nI i) (nI j) := by
  unfold wpX_depth
  dsimp only
  rw [nI_clamp (show p < 2 ^ 31 by omega)]
  have i1 : vp_in (nI p) 6 := vp_in_nI hp (by omega)
  exact ⟨i1, i1, i1, h⟩
theorem xc_f10 {post : Int32 → Prop} {set : Int32} {i j : Nat} (hc : cnt ≤ 6) (h : post (sh_en (sh_fr (bt set) (sh_dI sx sy sc i j) cnt))) :
    ∀ (m t n : Nat) (x5 : Int32), t + m = cnt → m < n → (∀ b, sh_fr (bt set) (sh_dI sx sy sc i j) t = some b → x5 = sh_dp sx sy sc i j b) →
      wX_front_10 post set (nI i) (nI j) ds (nI cnt) ac cu dX dY dP xs ys sz sx sy sc bk nx lr co re st sr he av ow ms n (sh_en (sh_fr (bt set) (sh_dI sx sy sc i j) t)) x5 (nI t) := by
  intro m
  induction m with
  | zero =>
    intro t n x5 ht hn hx
    obtain ⟨n, rfl⟩ : ∃ n', n = n' + 1 := ⟨n - 1, by omega⟩
    rw [wX_front_10]
    refine br_t (nI_le (by omega) (by omega)) ?_
    rw [show t = cnt by omega]
    exact h
  | succ m ih =>
    intro t n x5 ht hn hx
    obtain ⟨n, rfl⟩ : ∃ n', n = n' + 1 := ⟨n - 1, by omega⟩
    rw [wX_front_10]
    dsimp only
    rw [sh_bit (show t < 32 by omega)]
    refine br_f (nI_ge (by omega) (by omega)) ?_
    have g := fun x => ih (t + 1) n x (by omega) (by omega)
    cases c : bt set t
    · rw [sh_fr_0 c] at g
      exact br_f (by decide) (nm_r (nI_1 t) (g x5 hx))
    · refine br_t rfl (xc_depth (by omega) ?_)
      cases f : sh_fr (bt set) (sh_dI sx sy sc i j) t with
      | none =>
        rw [sh_fr_1 c f] at g
        exact br_t rfl (nm_r (nI_1 t) (g _ (fun b hb => by cases hb; rfl)))
      | some b =>
        have hb := (sh_fr_is f).1
        rw [hx b f]
        refine br_f (fun z => ?_) ?_
        · have z2 := congrArg Int32.toInt (show nI b = -2 from z)
          rw [nI_toInt (by omega), show (-2 : Int32).toInt = -2 by decide] at z2
          omega
        · by_cases d : sh_dI sx sy sc i j t < sh_dI sx sy sc i j b
          · rw [sh_fr_2 c f d] at g
            refine br_f (fun z => ?_) (nm_r (nI_1 t) (g _ (fun b hb => by cases hb; rfl)))
            rw [Int32.le_iff_toInt_le] at z
            unfold sh_dI at d
            omega
          · rw [sh_fr_3 c f d] at g
            refine br_t ?_ (nm_r (nI_1 t) (g _ (fun b hb => by cases hb; rfl)))
            rw [Int32.le_iff_toInt_le]
            unfold sh_dI at d
            omega
theorem xc_front {post : Int32 → Prop} {set : Int32} {i j : Nat} (hc : cnt ≤ 6) (h : post (sh_en (sh_fr (bt set) (sh_dI sx sy sc i j) cnt))) : wpX_front post (ds, nI cnt, ac, cu, dX, dY, dP, xs, ys, sz, sx, sy, sc, bk, nx, lr, co, re, st, sr, he, av, ow, ms) set (nI i) (nI j) := by
  unfold wpX_front
  dsimp only
  exact ⟨cnt + 1, xc_f10 hc h cnt 0 _ 0 (by omega) (by omega) (fun b hb => nomatch hb)⟩
theorem sh_steps {x7 z0 : Int32} {g N : Int} (hg : x7.toInt = g) (g1 : 1 ≤ g) (g2 : g ≤ 60) (hN : z0.toInt = N) (n1 : 1 ≤ N) (n2 : N ≤ 20000) :
    ∃ k : Nat, 1 ≤ k ∧ k ≤ 20200 ∧ ((z0 + (2 * x7)) - 1) / (2 * x7) = nI k ∧ ∀ s : Nat, s < k → 2 * (g * (s : Int)) < N := by
  have a1 : (2 * x7).toInt = 2 * g := sh_mul (by decide) hg (by omega) (by omega)
  have a2 := sh_add hN a1 (by omega) (by omega)
  have a3 := sh_sub a2 (show (1 : Int32).toInt = 1 by decide) (by omega) (by omega)
  have a4 := lg_idiv_nonneg (x := (z0 + (2 * x7)) - 1) (y := 2 * x7) (by omega) (by omega)
  rw [a3, a1] at a4
  have q1 : 2 * g * ((N + 2 * g - 1) / (2 * g)) + (N + 2 * g - 1) % (2 * g) = N + 2 * g - 1 := Int.mul_ediv_add_emod _ _
  have q2 : (N + 2 * g - 1) % (2 * g) < 2 * g := Int.emod_lt_of_pos _ (by omega)
  have q3 : 0 ≤ (N + 2 * g - 1) % (2 * g) := Int.emod_nonneg _ (by omega)
  generalize (N + 2 * g - 1) / (2 * g) = K at *
  generalize (N + 2 * g - 1) % (2 * g) = r at *
  have hK1 : 1 ≤ K := by
    rcases Int.lt_or_le K 1 with c | c
    · have : 0 ≤ 2 * g * (0 - K) := Int.mul_nonneg (by omega) (by omega)
      rw [Int.mul_sub, Int.mul_zero] at this
      generalize 2 * g * K = w at *
      omega
    · exact c
  have hK2 : K ≤ 20200 := by
    have h0 : 0 ≤ (2 * g - 1) * K := Int.mul_nonneg (by omega) (by omega)
    rw [Int.sub_mul, Int.one_mul] at h0
    generalize 2 * g * K = w at *
    omega
  refine ⟨K.toNat, by omega, by omega, sh_eqI (by rw [a4]; omega) (by omega), fun s hs => ?_⟩
  have h1 : 0 ≤ g * (K - 1 - (s : Int)) := Int.mul_nonneg (by omega) (by omega)
  rw [Int.mul_sub, Int.mul_sub, Int.mul_one] at h1
  rw [Int.mul_assoc] at q1
  generalize g * (s : Int) = v at *
  generalize g * K = w at *
  omega
theorem xc_82 {post : Int32 → Prop} {J7 : Int32 → Int32 → Prop} {x1 x2 x4 x7 z0 : Int32} {i b q : Nat} {g N : Int} (hg : x7.toInt = g) (g1 : 1 ≤ g) (g2 : g ≤ 60) (hN : z0.toInt = N) (n1 : 1 ≤ N) (n2 : N ≤ 20000)
    (hib : i < b) (hb : b ≤ 24) (hJ : ∀ b', i < b' → b' ≤ b → (∀ s : Nat, i + s < b' → 2 * (g * (s : Int)) < N) → J7 (nI b') (nI (q + 1))) :
    wX_change_82 post J7 x1 x2 (nI i) x4 (nI b) (nI q) x7 z0 ds cn ac cu dX dY dP xs ys sz sx sy sc bk nx lr co re st sr he av ow ms := by
  obtain ⟨k, k1, k2, k3, k4⟩ := sh_steps hg g1 g2 hN n1 n2
  have a1 : (2 * x7).toInt = 2 * g := sh_mul (by decide) hg (by omega) (by omega)
  unfold wX_change_82
  refine ⟨fun z => ?_, nm_r k3 (br_f (nI_nle (by omega) (by omega)) ?_)⟩
  · rw [z, show (0 : Int32).toInt = 0 by decide] at a1
    omega
  · unfold wX_change_112
    refine nm_r (nI_add i k) ?_
    by_cases c : b ≤ i + k
    · exact br_t (nI_le c (by omega)) (nm_r (nI_1 q) (hJ b hib (by omega) (fun s hs => k4 s (by omega))))
    · exact br_f (nI_ge (by omega) (by omega)) (nm_r (nI_1 q) (hJ (i + k) (by omega) (by omega) (fun s hs => k4 s (by omega))))
theorem xc_c7 {post : Int32 → Prop} {set : Int32} {p i j : Nat} (hc : cnt ≤ 6) (P : sh_Pl cnt sx sy sc) (hp : p < cnt) (hi : i < 24) (hj : j < 12)
    (hf : ∀ q, q < cnt → bt set q = true → (q < p → sh_dI sx sy sc i j p < sh_dI sx sy sc i j q) ∧ (p < q → sh_dI sx sy sc i j p ≤ sh_dI sx sy sc i j q))
    (h : ∀ b, i < b → b ≤ 24 → (∀ q, q < cnt → bt set q = true → sh_Nb sx sy sc i j p q b) → post (nI b)) :
    ∀ (m q n b : Nat), q + m = cnt → m < n → i < b → b ≤ 24 → (∀ q', q' < q → bt set q' = true → sh_Nb sx sy sc i j p q' b) →
      wX_change_7 post (nI p) set (nI i) (nI j) ds (nI cnt) ac cu dX dY dP xs ys sz sx sy sc bk nx lr co re st sr he av ow ms n (nI b) (nI q) := by
  intro m
  induction m with
  | zero =>
    intro q n b hq hn h1 h2 h3
    obtain ⟨n, rfl⟩ : ∃ n', n = n' + 1 := ⟨n - 1, by omega⟩
    rw [wX_change_7]
    exact br_t (nI_le (by omega) (by omega)) (h b h1 h2 (fun q' hq' => h3 q' (by omega)))
  | succ m ih =>
    intro q n b hq hn h1 h2 h3
    obtain ⟨n, rfl⟩ : ∃ n', n = n' + 1 := ⟨n - 1, by omega⟩
    rw [wX_change_7]
    dsimp only
    rw [nI_clamp (show p < 2 ^ 31 by omega), nI_clamp (show q < 2 ^ 31 by omega), sh_bit (show q < 32 by omega)]
    obtain ⟨a1, a2, _⟩ := P p hp
    obtain ⟨b1, b2, _⟩ := P q (by omega)
    have hg : (sx p - sx q).toInt = (sx p).toInt - (sx q).toInt := sh_sub rfl rfl (by omega) (by omega)
    have h00 : (0 : Int32).toInt = 0 := by decide
    refine br_f (nI_ge (by omega) (by omega)) ⟨vp_in_nI (by omega) (by omega), vp_in_nI (by omega) (by omega), nm_e ?_⟩
    have nx1 : ∀ b', i < b' → b' ≤ b → (bt set q = true → sh_Nb sx sy sc i j p q b') → wX_change_7 post (nI p) set (nI i) (nI j) ds (nI cnt) ac cu dX dY dP xs ys sz sx sy sc bk nx lr co re st sr he av ow ms n (nI b') (nI (q + 1)) := by
      intro b' k1 k2 k3
      refine ih (q + 1) n b' (by omega) (by omega) k1 (by omega) (fun q' hq' hb' => ?_)
      by_cases c : q' = q
      · subst c; exact k3 hb'
      · intro m m1 m2
        exact h3 q' (by omega) hb' m m1 (by omega)
    cases c : bt set q
    · exact br_f (by decide) (nm_r (nI_1 q) (nx1 b h1 (by omega) (fun z => by rw [c] at z; exact nomatch z)))
    · refine br_t rfl ?_
      by_cases d : (sx p).toInt - (sx q).toInt ≤ 0
      · refine br_t (by rw [Int32.le_iff_toInt_le, hg, h00]; exact d) (nm_r (nI_1 q) (nx1 b h1 (by omega) (fun _ => sh_Nb_neg P hp (by omega) hi (by omega) hj (hf q (by omega) c) d)))
      · refine br_f (by rw [Int32.le_iff_toInt_le, hg, h00]; exact d) (xc_depth (by omega) (xc_depth (by omega) (nm_e ?_)))
        have f := hf q (by omega) c
        have e1 := sh_dI_eq P hp hi hj
        have e2 := sh_dI_eq P (show q < cnt by omega) hi hj
        have hl : (sh_dp sx sy sc i j q - sh_dp sx sy sc i j p).toInt = sh_dI sx sy sc i j q - sh_dI sx sy sc i j p := sh_sub rfl rfl (by omega) (by omega)
        rcases Nat.lt_trichotomy p q with t | t | t
        · have f2 := f.2 t
          have hl1 := sh_add hl (show (1 : Int32).toInt = 1 by decide) (by omega) (by omega)
          refine br_t (nI_le (by omega) (by omega)) (xc_82 hg (by omega) (by omega) hl1 (by omega) (by omega) h1 h2 (fun b' k1 k2 k3 => nx1 b' k1 k2 (fun _ m m1 m2 => ?_)))
          have e := sh_dI_lin P hp (show q < cnt by omega) hi (show m < 24 by omega) hj m1
          have k4 := k3 (m - i) (by omega)
          generalize ((sx p).toInt - (sx q).toInt) * ((m - i : Nat) : Int) = w at *
          exact ⟨fun z => by omega, fun z => by omega⟩
        · subst t; omega
        · have f2 := f.1 t
          refine br_f (nI_ge (by omega) (by omega)) (xc_82 hg (by omega) (by omega) hl (by omega) (by omega) h1 h2 (fun b' k1 k2 k3 => nx1 b' k1 k2 (fun _ m m1 m2 => ?_)))
          have e := sh_dI_lin P hp (show q < cnt by omega) hi (show m < 24 by omega) hj m1
          have k4 := k3 (m - i) (by omega)
          generalize ((sx p).toInt - (sx q).toInt) * ((m - i : Nat) : Int) = w at *
          exact ⟨fun z => by omega, fun z => by omega⟩
theorem xc_change {post : Int32 → Prop} {set : Int32} {p i j : Nat} (hc : cnt ≤ 6) (P : sh_Pl cnt sx sy sc) (hp : p < cnt) (hi : i < 24) (hj : j < 12)
    (hf : ∀ q, q < cnt → bt set q = true → (q < p → sh_dI sx sy sc i j p < sh_dI sx sy sc i j q) ∧ (p < q → sh_dI sx sy sc i j p ≤ sh_dI sx sy sc i j q))
    (h : ∀ b, i < b → b ≤ 24 → (∀ q, q < cnt → bt set q = true → sh_Nb sx sy sc i j p q b) → post (nI b)) : wpX_change post (ds, nI cnt, ac, cu, dX, dY, dP, xs, ys, sz, sx, sy, sc, bk, nx, lr, co, re, st, sr, he, av, ow, ms) (nI p) set (nI i) (nI j) := by
  unfold wpX_change
  dsimp only
  exact ⟨cnt + 1, xc_c7 hc P hp hi hj hf h cnt 0 _ 24 (by omega) (by omega) hi (by omega) (fun q' hq' => absurd hq' (by omega))⟩
end
end
section
/-! a row shown: stretches, fronts -/
def sh_tg (cnt : Nat) (xs ys sz sx sy sc : Nat → Int32) (q : Nat) : Int32 := sh_en (sh_ow cnt xs ys sz sx sy sc (q % 24) (q / 24))
theorem sh_tg_at {cnt : Nat} {xs ys sz sx sy sc : Nat → Int32} {i j : Nat} (hi : i < 24) : sh_tg cnt xs ys sz sx sy sc (24 * j + i) = sh_en (sh_ow cnt xs ys sz sx sy sc i j) := by
  unfold sh_tg
  rw [show (24 * j + i) % 24 = i by omega, show (24 * j + i) / 24 = j by omega]
def sh_Dn (T : Nat → Int32) (ow : Nat → Int32) (N : Nat) : Prop := ∀ q, q < N → ow q = T q
section
variable {ds cn ac cu : Int32} {dX dY dP xs ys sz sx sy sc bk nx lr co re st sr he av ow ms : Nat → Int32} {cnt : Nat}
theorem xd_68 {post : SX → Prop} {J6 : Int32 → Int32 → (Nat → Int32) → (Nat → Int32) → (Nat → Int32) → (Nat → Int32) → (Nat → Int32) → (Nat → Int32) → (Nat → Int32) → (Nat → Int32) → (Nat → Int32) → (Nat → Int32) → (Nat → Int32) → (Nat → Int32) → (Nat → Int32) → (Nat → Int32) → (Nat → Int32) → (Nat → Int32) → (Nat → Int32) → (Nat → Int32) → (Nat → Int32) → (Nat → Int32) → Prop} {T : Nat → Int32} {x1 x3 v : Int32} {j t u : Nat} (hu : u ≤ 24) (hj : j < 12)
    (hJ : ∀ ow : Nat → Int32, sh_Dn T ow (24 * j + u) → J6 (nI u) (nI (t + 1)) dX dY dP xs ys sz sx sy sc bk nx lr co re st sr he av ow ms) :
    ∀ (m i n : Nat) (ow : Nat → Int32), i + m = u → m < n → sh_Dn T ow (24 * j + i) → (∀ a, i ≤ a → a < u → T (24 * j + a) = v) →
      wX_showStretch_68 post J6 x1 x3 (nI j) (nI t) v (nI u) ds cn ac cu n (nI i) dX dY dP xs ys sz sx sy sc bk nx lr co re st sr he av ow ms := by
  intro m
  induction m with
  | zero =>
    intro i n ow hi hn hD hv
    obtain ⟨n, rfl⟩ : ∃ n', n = n' + 1 := ⟨n - 1, by omega⟩
    rw [wX_showStretch_68]
    rw [show i = u by omega] at hD ⊢
    exact br_t (nI_le (by omega) (by omega)) (nm_r (nI_1 t) (hJ ow hD))
  | succ m ih =>
    intro i n ow hi hn hD hv
    obtain ⟨n, rfl⟩ : ∃ n', n = n' + 1 := ⟨n - 1, by omega⟩
    rw [wX_showStretch_68]
    dsimp only
    rw [sh_24k, nI_clamp (show 24 * j + i < 2 ^ 31 by omega)]
    refine br_f (nI_ge (by omega) (by omega)) ⟨vp_in_nI (by omega) (by omega), nm_e (nm_r (nI_1 i) (ih (i + 1) n _ (by omega) (by omega) (fun q hq => ?_) (fun a h1 h2 => hv a (by omega) h2)))⟩
    by_cases c : q = 24 * j + i
    · rw [c, pk_us, hv i (by omega) (by omega)]
    · rw [pk_un c]; exact hD q (by omega)
theorem xd_52 {post : SX → Prop} {J6 : Int32 → Int32 → (Nat → Int32) → (Nat → Int32) → (Nat → Int32) → (Nat → Int32) → (Nat → Int32) → (Nat → Int32) → (Nat → Int32) → (Nat → Int32) → (Nat → Int32) → (Nat → Int32) → (Nat → Int32) → (Nat → Int32) → (Nat → Int32) → (Nat → Int32) → (Nat → Int32) → (Nat → Int32) → (Nat → Int32) → (Nat → Int32) → (Nat → Int32) → (Nat → Int32) → Prop} {T : Nat → Int32} {x1 v : Int32} {j t e b i : Nat} (he24 : e ≤ 24) (hb24 : b ≤ 24) (hj : j < 12) (h1 : i < e) (h2 : i < b)
    (hD : sh_Dn T ow (24 * j + i)) (hv : ∀ a, i ≤ a → a < e → a < b → T (24 * j + a) = v)
    (hJ : ∀ (u : Nat) (ow : Nat → Int32), i < u → u ≤ e → sh_Dn T ow (24 * j + u) → J6 (nI u) (nI (t + 1)) dX dY dP xs ys sz sx sy sc bk nx lr co re st sr he av ow ms) :
    wX_showStretch_52 post J6 x1 (nI e) (nI j) (nI i) (nI t) v (nI b) ds cn ac cu dX dY dP xs ys sz sx sy sc bk nx lr co re st sr he av ow ms := by
  unfold wX_showStretch_52
  by_cases c : e ≤ b
  · exact br_t (nI_le c (by omega)) ⟨e - i + 1, xd_68 he24 hj (fun ow g => hJ e ow h1 (by omega) g) (e - i) i _ ow (by omega) (by omega) hD (fun a k1 k2 => hv a k1 k2 (by omega))⟩
  · exact br_f (nI_ge (by omega) (by omega)) ⟨b - i + 1, xd_68 hb24 hj (fun ow g => hJ b ow h2 (by omega) g) (b - i) i _ ow (by omega) (by omega) hD (fun a k1 k2 => hv a k1 (by omega) k2)⟩
theorem xd_6 {post : SX → Prop} {set : Int32} {j e f : Nat} (hc : cnt ≤ 6) (P : sh_Pl cnt sx sy sc) (hj : j < 12) (he24 : e ≤ 24)
    (hset : ∀ a, f ≤ a → a < e → ∀ p, p < cnt → bt set p = sh_cov xs ys sz p a j)
    (h : ∀ ow : Nat → Int32, sh_Dn (sh_tg cnt xs ys sz sx sy sc) ow (24 * j + e) → post (ds, nI cnt, ac, cu, dX, dY, dP, xs, ys, sz, sx, sy, sc, bk, nx, lr, co, re, st, sr, he, av, ow, ms)) :
    ∀ (n i t : Nat) (ow : Nat → Int32), e < i + n → f ≤ i → i ≤ e → t ≤ i → sh_Dn (sh_tg cnt xs ys sz sx sy sc) ow (24 * j + i) →
      wX_showStretch_6 post set (nI e) (nI j) ds (nI cnt) ac cu n (nI i) (nI t) dX dY dP xs ys sz sx sy sc bk nx lr co re st sr he av ow ms := by
  intro n
  induction n with
  | zero => intro i t ow h1 h2 h3; omega
  | succ n ih =>
    intro i t ow h1 h2 h3 h4 hD
    rw [wX_showStretch_6]
    by_cases c : i = e
    · rw [c] at hD ⊢
      exact br_c (fun _ => h ow hD) (fun _ => br_t (nI_le (by omega) (by omega)) (h ow hD))
    · refine br_f (nI_ge (b := 24) (by omega) (by omega)) (br_f (nI_ge (by omega) (by omega)) (xc_front hc ?_))
      have hcg : ∀ a, i ≤ a → a < e → sh_ow cnt xs ys sz sx sy sc a j = sh_fr (bt set) (sh_dI sx sy sc a j) cnt := by
        intro a k1 k2
        exact sh_fr_congr cnt (fun q hq => (hset a (by omega) k2 q hq).symm) (fun q _ => rfl)
      cases g : sh_fr (bt set) (sh_dI sx sy sc i j) cnt with
      | none =>
        refine br_t rfl (xd_52 (T := sh_tg cnt xs ys sz sx sy sc) he24 he24 hj (by omega) (by omega) hD (fun a k1 k2 _ => ?_) (fun u ow k1 k2 k3 => ih u (t + 1) ow (by omega) (by omega) k2 (by omega) k3))
        rw [sh_tg_at (by omega), hcg a k1 k2, sh_fr_none (fun q hq => sh_fr_n g q hq)]
      | some p =>
        obtain ⟨p1, p2, p3⟩ := sh_fr_is g
        refine br_f (fun z => ?_) (xc_change hc P p1 (by omega) hj p3 (fun b k1 k2 k3 => ?_))
        · have z2 := congrArg Int32.toInt (show nI p = -2 from z)
          rw [nI_toInt (by omega), show (-2 : Int32).toInt = -2 by decide] at z2
          omega
        · refine xd_52 (T := sh_tg cnt xs ys sz sx sy sc) he24 k2 hj (by omega) k1 hD (fun a m1 m2 m3 => ?_) (fun u ow k1 k2 k3 => ih u (t + 1) ow (by omega) (by omega) k2 (by omega) k3)
          rw [sh_tg_at (by omega), hcg a m1 m2]
          exact congrArg sh_en (sh_fr_of ⟨p1, p2, fun q hq hcq => k3 q hq hcq a m1 m3⟩)
theorem xd_stretch {post : SX → Prop} {set : Int32} {j e f : Nat} (hc : cnt ≤ 6) (P : sh_Pl cnt sx sy sc) (hj : j < 12) (he24 : e ≤ 24) (hfe : f ≤ e)
    (hset : ∀ a, f ≤ a → a < e → ∀ p, p < cnt → bt set p = sh_cov xs ys sz p a j) (hD : sh_Dn (sh_tg cnt xs ys sz sx sy sc) ow (24 * j + f))
    (h : ∀ ow : Nat → Int32, sh_Dn (sh_tg cnt xs ys sz sx sy sc) ow (24 * j + e) → post (ds, nI cnt, ac, cu, dX, dY, dP, xs, ys, sz, sx, sy, sc, bk, nx, lr, co, re, st, sr, he, av, ow, ms)) : wpX_showStretch post (ds, nI cnt, ac, cu, dX, dY, dP, xs, ys, sz, sx, sy, sc, bk, nx, lr, co, re, st, sr, he, av, ow, ms) set (nI f) (nI e) (nI j) := by
  unfold wpX_showStretch
  dsimp only
  exact ⟨e - f + 1, xd_6 hc P hj he24 hset h _ f 0 ow (by omega) (by omega) hfe (by omega) hD⟩
theorem xd_34 {post : SX → Prop} {J4 : Int32 → Int32 → Int32 → Int32 → Int32 → Int32 → (Nat → Int32) → (Nat → Int32) → (Nat → Int32) → (Nat → Int32) → (Nat → Int32) → (Nat → Int32) → (Nat → Int32) → (Nat → Int32) → (Nat → Int32) → (Nat → Int32) → (Nat → Int32) → (Nat → Int32) → (Nat → Int32) → (Nat → Int32) → (Nat → Int32) → (Nat → Int32) → (Nat → Int32) → (Nat → Int32) → (Nat → Int32) → (Nat → Int32) → Prop} {set x3 : Int32} {i j : Nat} (hj : j < 12)
    (h : ∀ e, i < e → e ≤ 24 → (∀ a, i ≤ a → a < e → ms (24 * j + a) = set) → wX_showRow_64 post J4 (nI j) (nI i) x3 set (nI e) ds cn ac cu dX dY dP xs ys sz sx sy sc bk nx lr co re st sr he av ow ms) :
    ∀ (m e n : Nat), e + m = 24 → m < n → i < e → (∀ a, i ≤ a → a < e → ms (24 * j + a) = set) → wX_showRow_34 post J4 (nI j) (nI i) x3 set ds cn ac cu dX dY dP xs ys sz sx sy sc bk nx lr co re st sr he av ow ms n (nI e) := by
  intro m
  induction m with
  | zero =>
    intro e n he1 hn h1 h2
    obtain ⟨n, rfl⟩ : ∃ n', n = n' + 1 := ⟨n - 1, by omega⟩
    rw [wX_showRow_34]
    exact br_t (nI_le (a := 24) (by omega) (by omega)) (h e h1 (by omega) h2)
  | succ m ih =>
    intro e n he1 hn h1 h2
    obtain ⟨n, rfl⟩ : ∃ n', n = n' + 1 := ⟨n - 1, by omega⟩
    rw [wX_showRow_34]
    dsimp only
    rw [sh_24k, nI_clamp (show 24 * j + e < 2 ^ 31 by omega)]
    refine br_f (nI_ge (b := 24) (by omega) (by omega)) ⟨vp_in_nI (by omega) (by omega), ?_⟩
    by_cases c : ms (24 * j + e) = set
    · refine br_t c (nm_r (nI_1 e) (ih (e + 1) n (by omega) (by omega) (by omega) (fun a k1 k2 => ?_)))
      by_cases d : a = e
      · rw [d]; exact c
      · exact h2 a k1 (by omega)
    · exact br_f c (h e h1 (by omega) h2)
theorem xd_4 {post : SX → Prop} {j : Nat} (hc : cnt ≤ 6) (P : sh_Pl cnt sx sy sc) (hj : j < 12)
    (hms : ∀ a, a < 24 → ∀ p, p < cnt → bt (ms (24 * j + a)) p = sh_cov xs ys sz p a j)
    (h : ∀ ow : Nat → Int32, sh_Dn (sh_tg cnt xs ys sz sx sy sc) ow (24 * j + 24) → post (ds, nI cnt, ac, cu, dX, dY, dP, xs, ys, sz, sx, sy, sc, bk, nx, lr, co, re, st, sr, he, av, ow, ms)) :
    ∀ (n i t : Nat) (ow : Nat → Int32), 24 < i + n → i ≤ 24 → t ≤ i → sh_Dn (sh_tg cnt xs ys sz sx sy sc) ow (24 * j + i) → wX_showRow_4 post (nI j) n (nI i) (nI t) ds (nI cnt) ac cu dX dY dP xs ys sz sx sy sc bk nx lr co re st sr he av ow ms := by
  intro n
  induction n with
  | zero => intro i t ow h1 h2; omega
  | succ n ih =>
    intro i t ow h1 h2 h3 hD
    rw [wX_showRow_4]
    by_cases c : i = 24
    · rw [c] at hD ⊢
      exact br_c (fun _ => h ow hD) (fun _ => br_t (nI_le (a := 24) (b := 24) (by omega) (by omega)) (h ow hD))
    · dsimp only
      rw [sh_24k, nI_clamp (show 24 * j + i < 2 ^ 31 by omega)]
      refine br_f (nI_ge (b := 24) (by omega) (by omega)) (br_f (nI_ge (b := 24) (by omega) (by omega)) ⟨vp_in_nI (by omega) (by omega), nm_e (nm_r (nI_1 i) ⟨24 - i, ?_⟩)⟩)
      refine xd_34 hj (fun e k1 k2 k3 => ?_) (24 - (i + 1)) (i + 1) _ (by omega) (by omega) (by omega) (fun a k1 k2 => by rw [show a = i by omega])
      unfold wX_showRow_64
      refine xd_stretch hc P hj k2 (by omega) (fun a m1 m2 p hp => ?_) hD (fun ow g => ?_)
      · rw [← k3 a m1 m2]
        exact hms a (by omega) p hp
      · exact nm_r (nI_1 t) (ih e (t + 1) ow (by omega) k2 (by omega) g)
theorem xd_show {post : SX → Prop} {j : Nat} (hc : cnt ≤ 6) (P : sh_Pl cnt sx sy sc) (hj : j < 12)
    (hms : ∀ a, a < 24 → ∀ p, p < cnt → bt (ms (24 * j + a)) p = sh_cov xs ys sz p a j) (hD : sh_Dn (sh_tg cnt xs ys sz sx sy sc) ow (24 * j))
    (h : ∀ ow : Nat → Int32, sh_Dn (sh_tg cnt xs ys sz sx sy sc) ow (24 * j + 24) → post (ds, nI cnt, ac, cu, dX, dY, dP, xs, ys, sz, sx, sy, sc, bk, nx, lr, co, re, st, sr, he, av, ow, ms)) : wpX_showRow post (ds, nI cnt, ac, cu, dX, dY, dP, xs, ys, sz, sx, sy, sc, bk, nx, lr, co, re, st, sr, he, av, ow, ms) (nI j) := by
  unfold wpX_showRow
  dsimp only
  exact ⟨25, xd_4 hc P hj hms h 25 0 0 ow (by omega) (by omega) (by omega) hD⟩
end
end
section
/-! the edges stepped; the rows, one behind another -/
theorem sh_EdA_upd {xs ys sz lr co re st sr he co' re' : Nat → Int32} {e r : Nat} (h1 : co' e = co e) (h2 : re' e = re e) (h : sh_EdA xs ys sz e r lr co re st sr he) : sh_EdA xs ys sz e r lr co' re' st sr he := by
  unfold sh_EdA at *
  rw [h1, h2]
  exact h
section
variable {ds cn ac cu : Int32} {dX dY dP xs ys sz sx sy sc bk nx lr co re st sr he av ow ms : Nat → Int32} {cnt : Nat}
theorem xe_4 {post : SX → Prop} {j : Nat} {co0 re0 : Nat → Int32} (H : sh_Ok cnt xs ys sz) (hj : j < 12) :
    ∀ (rest dn kp : List Nat) (T n : Nat) (av co re : Nat → Int32), dn.length + rest.length = T → T ≤ 48 → rest.length < n → kp.length ≤ dn.length → (dn ++ rest).Nodup →
      sh_At av rest dn.length → sh_At av kp 0 →
      (∀ e, e ∈ rest → sh_E cnt ys sz e = true ∧ sh_yt ys sz e ≤ j ∧ j < sh_yb ys sz e ∧ sh_EdA xs ys sz e j lr co re st sr he) →
      (∀ e, e ∉ dn → co e = co0 e ∧ re e = re0 e) → (∀ e, e ∈ kp → e ∈ dn ∧ sh_EdA xs ys sz e (j + 1) lr co re st sr he) →
      (∀ av co re : Nat → Int32, sh_At av (kp ++ rest.filter (fun e => decide (j + 1 < sh_yb ys sz e))) 0 → (∀ e, e ∉ dn ++ rest → co e = co0 e ∧ re e = re0 e) →
        (∀ e, e ∈ kp ++ rest.filter (fun e => decide (j + 1 < sh_yb ys sz e)) → sh_EdA xs ys sz e (j + 1) lr co re st sr he) →
        post (ds, cn, nI (kp ++ rest.filter (fun e => decide (j + 1 < sh_yb ys sz e))).length, cu, dX, dY, dP, xs, ys, sz, sx, sy, sc, bk, nx, lr, co, re, st, sr, he, av, ow, ms)) →
      wX_stepEdges_4 post (nI j) ds cn (nI T) cu n (nI kp.length) (nI dn.length) dX dY dP xs ys sz sx sy sc bk nx lr co re st sr he av ow ms := by
  intro rest
  induction rest with
  | nil =>
    intro dn kp T n av co re hT h48 hn hk hnd hA hK hR h0 hE h
    obtain ⟨n, rfl⟩ : ∃ n', n = n' + 1 := ⟨n - 1, by omega⟩
    rw [wX_stepEdges_4]
    rw [List.length_nil] at hT
    simp only [List.filter_nil, List.append_nil] at h
    exact br_t (nI_le (by omega) (by omega)) (h av co re hK h0 (fun e z => (hE e z).2))
  | cons e rest ih =>
    intro dn kp T n av co re hT h48 hn hk hnd hA hK hR h0 hE h
    rw [List.length_cons] at hT hn
    obtain ⟨n, rfl⟩ : ∃ n', n = n' + 1 := ⟨n - 1, by omega⟩
    obtain ⟨hav, hA⟩ := hA
    obtain ⟨r1, r2, r3, r4⟩ := hR e List.mem_cons_self
    obtain ⟨p1, _, _, ⟨_, _, p2, _, _⟩, ⟨_, _, p3, _, p4⟩, _⟩ := sh_E_pts H r1
    have hnd2 : (dn ++ [e] ++ rest).Nodup := by rw [List.append_assoc]; exact hnd
    obtain ⟨n1, n2, n3⟩ := List.nodup_append.mp hnd
    have hed : e ∉ dn := fun z => n3 e z e List.mem_cons_self rfl
    have her : e ∉ rest := (List.nodup_cons.mp n2).1
    have r5 := r4
    unfold sh_EdA at r5
    have r6 := r5.1
    rw [wX_stepEdges_4]
    dsimp only
    rw [nI_clamp (show dn.length < 2 ^ 31 by omega)]
    have ie : vp_in (nI e) 48 := vp_in_nI p1 (by omega)
    refine br_f (nI_ge (by omega) (by omega)) ⟨vp_in_nI (by omega) (by omega), nm_r hav ⟨ie, ?_⟩⟩
    rw [nI_clamp (show e < 2 ^ 31 by omega), r6]
    have hyb : sh_yb ys sz e ≤ 12 := p4
    by_cases c : j + 1 < sh_yb ys sz e
    · refine br_f (nI_ge (by omega) (by omega)) ?_
      rw [List.filter_cons_of_pos (by exact decide_eq_true c)] at h
      have go : ∀ co' re' : Nat → Int32, (∀ x, x ≠ e → co' x = co x ∧ re' x = re x) → sh_EdA xs ys sz e (j + 1) lr co' re' st sr he →
          wX_stepEdges_110 post (wX_stepEdges_4 post (nI j) ds cn (nI T) cu n) (nI j) (nI kp.length) (nI dn.length) (nI e) ds cn (nI T) cu dX dY dP xs ys sz sx sy sc bk nx lr co' re' st sr he av ow ms := by
        intro co' re' k1 k2
        unfold wX_stepEdges_110
        rw [nI_clamp (show kp.length < 2 ^ 31 by omega)]
        refine ⟨vp_in_nI (by omega) (by omega), nm_e (nm_r (e' := nI (kp ++ [e]).length) (by rw [nI_1, sh_snoc_len]) (nm_r (e' := nI (dn ++ [e]).length) (by rw [nI_1, sh_snoc_len]) ?_))⟩
        refine ih (dn ++ [e]) (kp ++ [e]) T n _ co' re' (by rw [sh_snoc_len]; omega) h48 (by omega) (by rw [sh_snoc_len, sh_snoc_len]; omega) hnd2
          (by rw [sh_snoc_len]; exact sh_At_lo (by omega) hA) (sh_At_put hK) (fun x hx => ?_) (fun x hx => ?_) (fun x hx => ?_) ?_
        · obtain ⟨s1, s2, s3, s4⟩ := hR x (List.mem_cons_of_mem _ hx)
          have hne : x ≠ e := fun z => her (by rw [← z]; exact hx)
          exact ⟨s1, s2, s3, sh_EdA_upd (k1 x hne).1 (k1 x hne).2 s4⟩
        · have hx1 : x ∉ dn := fun z => hx (List.mem_append_left _ z)
          have hne : x ≠ e := fun z => hx (List.mem_append_right _ (by rw [z]; exact List.mem_cons_self))
          rw [(k1 x hne).1, (k1 x hne).2]
          exact h0 x hx1
        · rcases List.mem_append.mp hx with z | z
          · have hne : x ≠ e := fun y => hed (by rw [← y]; exact (hE x z).1)
            exact ⟨List.mem_append_left _ (hE x z).1, sh_EdA_upd (k1 x hne).1 (k1 x hne).2 (hE x z).2⟩
          · have y : x = e := List.mem_singleton.mp z
            rw [y]
            exact ⟨List.mem_append_right _ List.mem_cons_self, k2⟩
        · rw [List.append_assoc, List.append_assoc]
          exact h
      have stp := sh_Ed_step p2 p3 hyb r2 c r5
      refine ⟨ie, ie, ie, nm_e ⟨ie, ie, ie, nm_e ⟨ie, ie, ?_⟩⟩⟩
      rw [pk_us]
      refine br_c (fun q => go _ _ (fun x hx => ⟨pk_un hx, pk_un hx⟩) ?_) (fun q => ⟨ie, ie, ie, nm_e ⟨ie, ie, nm_e (go _ _ (fun x hx => ⟨?_, ?_⟩) ?_)⟩⟩)
      · unfold sh_EdA
        rw [pk_us, pk_us]
        exact stp.1 q
      · rw [pk_un hx, pk_un hx]
      · rw [pk_un hx, pk_un hx]
      · unfold sh_EdA
        rw [pk_us, pk_us, pk_us]
        exact stp.2 q
    · refine br_t (nI_le (by omega) (by omega)) (nm_r (e' := nI (dn ++ [e]).length) (by rw [nI_1, sh_snoc_len]) ?_)
      rw [List.filter_cons_of_neg (by rw [decide_eq_false c]; exact Bool.false_ne_true)] at h
      refine ih (dn ++ [e]) kp T n av co re (by rw [sh_snoc_len]; omega) h48 (by omega) (by rw [sh_snoc_len]; omega) hnd2 (by rw [sh_snoc_len]; exact hA) hK
        (fun x hx => hR x (List.mem_cons_of_mem _ hx)) (fun x hx => h0 x (fun z => hx (List.mem_append_left _ z))) (fun x hx => ⟨List.mem_append_left _ (hE x hx).1, (hE x hx).2⟩) ?_
      rw [List.append_assoc]
      exact h
theorem xe_step {post : SX → Prop} {j : Nat} {AL : List Nat} (H : sh_Ok cnt xs ys sz) (hj : j < 12) (hl : AL.length ≤ 48) (hnd : AL.Nodup) (hA : sh_At av AL 0)
    (hR : ∀ e, e ∈ AL → sh_E cnt ys sz e = true ∧ sh_yt ys sz e ≤ j ∧ j < sh_yb ys sz e ∧ sh_EdA xs ys sz e j lr co re st sr he)
    (h : ∀ (av co' re' : Nat → Int32) (AL' : List Nat), sh_At av AL' 0 → AL'.Nodup → (∀ e, e ∈ AL' ↔ (e ∈ AL ∧ j + 1 < sh_yb ys sz e)) → (∀ e, e ∉ AL → co' e = co e ∧ re' e = re e) →
      (∀ e, e ∈ AL' → sh_EdA xs ys sz e (j + 1) lr co' re' st sr he) → post (ds, cn, nI AL'.length, cu, dX, dY, dP, xs, ys, sz, sx, sy, sc, bk, nx, lr, co', re', st, sr, he, av, ow, ms)) :
    wpX_stepEdges post (ds, cn, nI AL.length, cu, dX, dY, dP, xs, ys, sz, sx, sy, sc, bk, nx, lr, co, re, st, sr, he, av, ow, ms) (nI j) := by
  unfold wpX_stepEdges
  dsimp only
  refine ⟨AL.length + 1, xe_4 (co0 := co) (re0 := re) H hj AL [] [] AL.length _ av co re (by rw [List.length_nil, Nat.zero_add]) hl (by omega) (Nat.le_refl _) hnd hA trivial hR (fun e _ => ⟨rfl, rfl⟩) (fun e z => absurd z List.not_mem_nil) (fun av co re k1 k2 k3 => ?_)⟩
  refine h av co re _ k1 (List.Pairwise.filter _ hnd) (fun e => ?_) k2 k3
  rw [List.nil_append, List.mem_filter, decide_eq_true_eq]
/-- the xor over the active edges is the reference's parity -/
theorem sh_cov_list (H : sh_Ok cnt xs ys sz) {AL : List Nat} {j a p : Nat} (hp : p < cnt) (ha : a < 24) (hj : j < 12) (hnd : AL.Nodup)
    (hm : ∀ e, e ∈ AL ↔ (sh_E cnt ys sz e = true ∧ sh_yt ys sz e ≤ j ∧ j < sh_yb ys sz e))
    (hco : ∀ e, e ∈ AL → sh_cl co e = sh_K (sh_xt xs ys sz e) (sh_xb xs ys sz e) (sh_yb ys sz e - sh_yt ys sz e) (j - sh_yt ys sz e) / (2 * (sh_yb ys sz e - sh_yt ys sz e))) :
    sh_xl (sh_G co p a) AL = sh_cov xs ys sz p a j := by
  have h6 := H.1
  obtain ⟨_, h8, _⟩ := H.2 p hp
  rw [sh_xl_nd (sh_G co p a) 48 AL hnd (fun e he1 => (sh_E_pts H ((hm e).mp he1).1).1)]
  rw [show 48 = 8 * p + (sh_cl sz p + (48 - 8 * p - sh_cl sz p)) by omega, sh_xs_add, sh_xs_add]
  have z1 : sh_xs (fun e => decide (e ∈ AL) && sh_G co p a e) (8 * p) = false := by
    refine sh_xs_0 _ (fun k hk => ?_)
    unfold sh_G
    rw [decide_eq_false (show ¬ k / 8 = p by omega), Bool.and_false, Bool.and_false]
  have z2 : sh_xs (fun k => decide ((8 * p + (sh_cl sz p + k)) ∈ AL) && sh_G co p a (8 * p + (sh_cl sz p + k))) (48 - 8 * p - sh_cl sz p) = false := by
    refine sh_xs_0 _ (fun k hk => ?_)
    by_cases c : (8 * p + (sh_cl sz p + k)) / 8 = p
    · have hn : ¬ (8 * p + (sh_cl sz p + k)) ∈ AL := by
        intro z
        have z3 := (sh_E_pts H ((hm _).mp z).1).2.2.1
        rw [c] at z3
        omega
      rw [decide_eq_false hn, Bool.false_and]
    · unfold sh_G
      rw [decide_eq_false c, Bool.and_false, Bool.and_false]
  have z3 : sh_xs (fun k => decide ((8 * p + k) ∈ AL) && sh_G co p a (8 * p + k)) (sh_cl sz p) = sh_cov xs ys sz p a j := by
    unfold sh_cov
    refine sh_xs_congr _ (fun k hk => ?_)
    have e1 : (8 * p + k) / 8 = p := by omega
    have e2 : (8 * p + k) % 8 = k := by omega
    have q := sh_le_iff H (e := 8 * p + k) (i := a) (j := j) (by omega) (by rw [e1, e2]; exact hk) ha hj
    rw [Bool.eq_iff_iff, q]
    unfold sh_G
    rw [e1]
    simp only [Bool.and_eq_true, decide_eq_true_eq, and_true]
    constructor
    · rintro ⟨m1, m2⟩
      obtain ⟨m3, m4, m5⟩ := (hm _).mp m1
      rw [hco _ m1] at m2
      exact ⟨m3, m4, m5, m2⟩
    · rintro ⟨m3, m4, m5, m2⟩
      have m1 := (hm _).mpr ⟨m3, m4, m5⟩
      refine ⟨m1, ?_⟩
      rw [hco _ m1]
      exact m2
  rw [z1, z2, z3, Bool.xor_false, Bool.false_xor]
end
end
section
/-! the whole of refresh -/
def sh_Gd (cnt : Nat) (xs ys sz sx sy sc ow ms : Nat → Int32) : Prop :=
  sh_Dn (sh_tg cnt xs ys sz sx sy sc) ow 288 ∧ ∀ q, q < 288 → ∀ p, p < cnt → bt (ms q) p = sh_cov xs ys sz p (q % 24) (q / 24)
/-- the edges at the head of row j -/
def sh_Rw (cnt : Nat) (xs ys sz : Nat → Int32) (j : Nat) (AL : List Nat) (lr co re st sr he : Nat → Int32) : Prop :=
  AL.Nodup ∧ (∀ e, e ∈ AL ↔ (sh_E cnt ys sz e = true ∧ sh_yt ys sz e < j ∧ j < sh_yb ys sz e)) ∧
  (∀ e, sh_E cnt ys sz e = true → sh_yt ys sz e ≤ j → j < sh_yb ys sz e → sh_EdA xs ys sz e j lr co re st sr he) ∧
  (∀ e, sh_E cnt ys sz e = true → j ≤ sh_yt ys sz e → sh_EdA xs ys sz e (sh_yt ys sz e) lr co re st sr he)
section
variable {ds cn ac cu : Int32} {dX dY dP xs ys sz sx sy sc bk nx lr co re st sr he av ow ms : Nat → Int32} {cnt : Nat}
theorem xe_24 {post : SX → Prop} (H : sh_Ok cnt xs ys sz) (P : sh_Pl cnt sx sy sc) (hB : ∀ r, r < 12 → sh_Ch nx (sh_L cnt ys sz r 48) (bk r))
    (h : ∀ (ac : Int32) (co re av ow ms : Nat → Int32), sh_Gd cnt xs ys sz sx sy sc ow ms → post (ds, nI cnt, ac, cu, dX, dY, dP, xs, ys, sz, sx, sy, sc, bk, nx, lr, co, re, st, sr, he, av, ow, ms)) :
    ∀ (m j n : Nat) (AL : List Nat) (co re av ow ms : Nat → Int32), j + m = 12 → m < n → sh_At av AL 0 → sh_Rw cnt xs ys sz j AL lr co re st sr he →
      sh_Dn (sh_tg cnt xs ys sz sx sy sc) ow (24 * j) → (∀ q, q < 24 * j → ∀ p, p < cnt → bt (ms q) p = sh_cov xs ys sz p (q % 24) (q / 24)) →
      wX_refresh_24 post n (nI j) ds (nI cnt) (nI AL.length) cu dX dY dP xs ys sz sx sy sc bk nx lr co re st sr he av ow ms := by
  have h6 := H.1
  intro m
  induction m with
  | zero =>
    intro j n AL co re av ow ms hj hn hA hR hD hM
    obtain ⟨n, rfl⟩ : ∃ n', n = n' + 1 := ⟨n - 1, by omega⟩
    rw [wX_refresh_24]
    rw [show j = 12 by omega] at hD hM
    exact br_t (nI_le (a := 12) (by omega) (by omega)) (h _ _ _ _ _ _ ⟨hD, hM⟩)
  | succ m ih =>
    intro j n AL co re av ow ms hj hn hA hR hD hM
    obtain ⟨n, rfl⟩ : ∃ n', n = n' + 1 := ⟨n - 1, by omega⟩
    obtain ⟨R1, R2, R3, R4⟩ := hR
    have hj12 : j < 12 := by omega
    have nd1 : (AL ++ sh_L cnt ys sz j 48).Nodup := by
      refine List.nodup_append.mpr ⟨R1, sh_L_nd, fun a h1 b h2 z => ?_⟩
      have k1 := ((R2 a).mp h1).2.1
      have k2 := (sh_L_mem.mp h2).2.2
      rw [z] at k1
      omega
    have mem1 : ∀ e, e ∈ AL ++ sh_L cnt ys sz j 48 ↔ (sh_E cnt ys sz e = true ∧ sh_yt ys sz e ≤ j ∧ j < sh_yb ys sz e) := by
      intro e
      rw [List.mem_append, R2 e, sh_L_mem]
      constructor
      · rintro (⟨k1, k2, k3⟩ | ⟨k1, k2, k3⟩)
        · exact ⟨k1, by omega, k3⟩
        · have := (sh_E_pts H k2).2.2.2.2.2
          exact ⟨k2, by omega, by omega⟩
      · rintro ⟨k1, k2, k3⟩
        by_cases c : sh_yt ys sz e < j
        · exact Or.inl ⟨k1, c, k3⟩
        · exact Or.inr ⟨(sh_E_pts H k1).1, k1, by omega⟩
    have len1 : (AL ++ sh_L cnt ys sz j 48).length ≤ 48 := sh_nd_len nd1 (fun e z => (sh_E_pts H ((mem1 e).mp z).1).1)
    have ed1 : ∀ e, e ∈ AL ++ sh_L cnt ys sz j 48 → sh_E cnt ys sz e = true ∧ sh_yt ys sz e ≤ j ∧ j < sh_yb ys sz e ∧ sh_EdA xs ys sz e j lr co re st sr he := by
      intro e z
      obtain ⟨k1, k2, k3⟩ := (mem1 e).mp z
      exact ⟨k1, k2, k3, R3 e k1 k2 k3⟩
    have col1 : ∀ e, e ∈ AL ++ sh_L cnt ys sz j 48 → e < 48 ∧ co e = nI (sh_cl co e) ∧ sh_cl co e ≤ 24 ∧
        sh_cl co e = sh_K (sh_xt xs ys sz e) (sh_xb xs ys sz e) (sh_yb ys sz e - sh_yt ys sz e) (j - sh_yt ys sz e) / (2 * (sh_yb ys sz e - sh_yt ys sz e)) := by
      intro e z
      obtain ⟨k1, k2, k3, k4⟩ := ed1 e z
      obtain ⟨p1, _, _, ⟨_, _, p2, _, _⟩, ⟨_, _, p3, _, p4⟩, _⟩ := sh_E_pts H k1
      have k5 := k4.2.2.1
      have k6 := sh_Ed_col (X1 := sh_xt xs ys sz e) (X2 := sh_xb xs ys sz e) p2 p3 k2 k3
      have k7 := sh_clE k5 (by omega)
      exact ⟨p1, by rw [k7]; exact k5, by omega, k7⟩
    rw [wX_refresh_24]
    refine br_f (nI_ge (b := 12) (by omega) (by omega)) ?_
    refine xb_admit (AL := AL) hj12 (hB j hj12) (by rw [List.length_append] at len1; exact len1) hA (fun av hA1 => ?_)
    refine xb_cover (AL := AL ++ sh_L cnt ys sz j 48) hj12 hA1 len1 (fun e z => ⟨(col1 e z).1, (col1 e z).2.1, (col1 e z).2.2.1⟩) (fun ms' k1 k2 => ?_)
    have bits : ∀ a, a < 24 → ∀ p, p < cnt → bt (ms' (24 * j + a)) p = sh_cov xs ys sz p a j := by
      intro a ha p hp
      rw [k1 a ha p (by omega)]
      exact sh_cov_list H hp ha hj12 nd1 mem1 (fun e z => (col1 e z).2.2.2)
    refine xd_show h6 P hj12 bits hD (fun ow hD1 => ?_)
    refine xe_step (AL := AL ++ sh_L cnt ys sz j 48) H hj12 len1 nd1 hA1 ed1 (fun av co' re' AL' s1 s2 s3 s4 s5 => ?_)
    refine nm_r (nI_1 j) (ih (j + 1) n AL' co' re' av ow ms' (by omega) (by omega) s1 ⟨s2, fun e => ?_, fun e e1 e2 e3 => ?_, fun e e1 e2 => ?_⟩ ?_ (fun q hq p hp => ?_))
    · rw [s3 e, mem1 e]
      constructor
      · rintro ⟨⟨t1, t2, t3⟩, t4⟩
        exact ⟨t1, by omega, t4⟩
      · rintro ⟨t1, t2, t3⟩
        exact ⟨⟨t1, by omega, by omega⟩, t3⟩
    · by_cases c : sh_yt ys sz e ≤ j
      · exact s5 e ((s3 e).mpr ⟨(mem1 e).mpr ⟨e1, c, by omega⟩, e3⟩)
      · have nm : e ∉ AL ++ sh_L cnt ys sz j 48 := fun z => c ((mem1 e).mp z).2.1
        have g := R4 e e1 (by omega)
        rw [show sh_yt ys sz e = j + 1 by omega] at g
        exact sh_EdA_upd (s4 e nm).1 (s4 e nm).2 g
    · have nm : e ∉ AL ++ sh_L cnt ys sz j 48 := fun z => by have := ((mem1 e).mp z).2.1; omega
      exact sh_EdA_upd (s4 e nm).1 (s4 e nm).2 (R4 e e1 (by omega))
    · rw [show 24 * (j + 1) = 24 * j + 24 by omega]
      exact hD1
    · by_cases c : q < 24 * j
      · rw [k2 q c]
        exact hM q c p hp
      · have b := bits (q - 24 * j) (by omega) p hp
        rw [show 24 * j + (q - 24 * j) = q by omega] at b
        rw [b, show q % 24 = q - 24 * j by omega, show q / 24 = j by omega]
theorem xe_refresh {post : SX → Prop} (H : sh_Ok cnt xs ys sz) (P : sh_Pl cnt sx sy sc) (hG : ¬ cu = 0 → sh_Gd cnt xs ys sz sx sy sc ow ms)
    (h : ∀ (ac cu : Int32) (bk nx lr co re st sr he av ow ms : Nat → Int32), sh_Gd cnt xs ys sz sx sy sc ow ms → post (ds, nI cnt, ac, cu, dX, dY, dP, xs, ys, sz, sx, sy, sc, bk, nx, lr, co, re, st, sr, he, av, ow, ms)) : wpX_refresh post (ds, nI cnt, ac, cu, dX, dY, dP, xs, ys, sz, sx, sy, sc, bk, nx, lr, co, re, st, sr, he, av, ow, ms) := by
  unfold wpX_refresh
  dsimp only
  refine br_c (fun c => ?_) (fun c => h _ _ _ _ _ _ _ _ _ _ _ _ _ (hG c))
  refine xa_fill H (fun bk nx lr co re st sr he F => ⟨13, ?_⟩)
  refine xe_24 H P F.1 (fun ac co re av ow ms g => h _ _ _ _ _ _ _ _ _ _ _ _ _ g) 12 0 13 [] co re av ow ms (by omega) (by omega) trivial ⟨List.nodup_nil, fun e => ?_, fun e e1 e2 e3 => ?_, fun e e1 e2 => ?_⟩ (fun q hq => absurd hq (by omega)) (fun q hq => absurd hq (by omega))
  · exact ⟨fun z => absurd z List.not_mem_nil, fun z => absurd z.2.1 (by omega)⟩
  · have g := F.2 e (sh_E_pts H e1).1 e1
    rw [show sh_yt ys sz e = 0 by omega] at g
    exact g
  · exact F.2 e (sh_E_pts H e1).1 e1
end
end
section
/-! the relation -/
def sh_In (a : Int32) (N : Nat) : Prop := ∃ n, n ≤ N ∧ a = nI n
theorem sh_In_cl {a : Nat → Int32} {e N : Nat} (h : sh_In (a e) N) (hN : N < 2 ^ 31) : a e = nI (sh_cl a e) ∧ sh_cl a e ≤ N := by
  obtain ⟨n, h1, h2⟩ := h
  have h3 := sh_clE h2 (by omega)
  rw [h3]
  exact ⟨h2, h1⟩
def sh_Pb (a b c : Int32) : Prop := -30 ≤ a.toInt ∧ a.toInt ≤ 30 ∧ -30 ≤ b.toInt ∧ b.toInt ≤ 30 ∧ -3000 ≤ c.toInt ∧ c.toInt ≤ 3000
/-- polygon p, alike on both sides -/
def sh_Pg (xs ys sz sx sy sc yx yy : Nat → Int32) (p : Nat) : Prop :=
  (∃ s, s ≤ 8 ∧ sz p = nI s ∧ ∀ k, k < s → sh_In (xs (8 * p + k)) 24 ∧ sh_In (ys (8 * p + k)) 12 ∧ yx (8 * p + k) = xs (8 * p + k) ∧ yy (8 * p + k) = ys (8 * p + k)) ∧ sh_Pb (sx p) (sy p) (sc p)
def sh_Rf (D C : Nat) (dX dY dP xs ys sz sx sy sc yx yy : Nat → Int32) : Prop :=
  D ≤ 8 ∧ C ≤ 6 ∧ sh_Pb (dP 0) (dP 1) (dP 2) ∧ (∀ k, k < D → sh_In (dX k) 24 ∧ sh_In (dY k) 12 ∧ yx (48 + k) = dX k ∧ yy (48 + k) = dY k) ∧ (∀ p, p < C → sh_Pg xs ys sz sx sy sc yx yy p)
def i_Rel (k : Nat) (u : SX) (v : SY) : Prop := match u with
  | (ds, cn, ac, cu, dX, dY, dP, xs, ys, sz, sx, sy, sc, bk, nx, lr, co, re, st, sr, he, av, ow, ms) => match v with
    | (pt, dA, dB, dC, dn, yx, yy, sd, pa, pb, pc) => ∃ D C : Nat, ds = nI D ∧ cn = nI C ∧ pt = nI D ∧ dn = nI C ∧ dA = dP 0 ∧ dB = dP 1 ∧ dC = dP 2 ∧ sd = sz ∧ pa = sx ∧ pb = sy ∧ pc = sc ∧
        sh_Rf D C dX dY dP xs ys sz sx sy sc yx yy ∧ (¬ cu = 0 → sh_Gd C xs ys sz sx sy sc ow ms)
theorem zz_el {P : SX → SY → Prop} {k : Nat} {u : SX} {v : SY}
    (h : ∀ (D C : Nat) (ac cu : Int32) (dX dY dP xs ys sz sx sy sc bk nx lr co re st sr he av ow ms yx yy : Nat → Int32), sh_Rf D C dX dY dP xs ys sz sx sy sc yx yy →
      (¬ cu = 0 → sh_Gd C xs ys sz sx sy sc ow ms) → P (nI D, nI C, ac, cu, dX, dY, dP, xs, ys, sz, sx, sy, sc, bk, nx, lr, co, re, st, sr, he, av, ow, ms) (nI D, dP 0, dP 1, dP 2, nI C, yx, yy, sz, sx, sy, sc)) (I : i_Rel k u v) : P u v := by
  obtain ⟨ds, cn, ac, cu, dX, dY, dP, xs, ys, sz, sx, sy, sc, bk, nx, lr, co, re, st, sr, he, av, ow, ms⟩ := u
  obtain ⟨pt, dA, dB, dC, dn, yx, yy, sd, pa, pb, pc⟩ := v
  obtain ⟨D, C, rfl, rfl, rfl, rfl, rfl, rfl, rfl, rfl, rfl, rfl, rfl, R, G⟩ := I
  exact h D C _ _ _ _ _ _ _ _ _ _ _ _ _ _ _ _ _ _ _ _ _ _ _ _ R G
section
variable {ds cn ac cu : Int32} {dX dY dP xs ys sz sx sy sc bk nx lr co re st sr he av ow ms : Nat → Int32} {yx yy : Nat → Int32} {D C : Nat}
theorem zz_in {k : Nat} (R : sh_Rf D C dX dY dP xs ys sz sx sy sc yx yy) (G : ¬ cu = 0 → sh_Gd C xs ys sz sx sy sc ow ms) :
    i_Rel k (nI D, nI C, ac, cu, dX, dY, dP, xs, ys, sz, sx, sy, sc, bk, nx, lr, co, re, st, sr, he, av, ow, ms) (nI D, dP 0, dP 1, dP 2, nI C, yx, yy, sz, sx, sy, sc) :=
  ⟨D, C, rfl, rfl, rfl, rfl, rfl, rfl, rfl, rfl, rfl, rfl, rfl, R, G⟩
theorem zz_ok (R : sh_Rf D C dX dY dP xs ys sz sx sy sc yx yy) : sh_Ok C xs ys sz := by
  obtain ⟨_, h2, _, _, h5⟩ := R
  refine ⟨h2, fun p hp => ?_⟩
  obtain ⟨⟨s, s1, s2, s3⟩, _⟩ := h5 p hp
  have e := sh_clE s2 (by omega)
  rw [e]
  refine ⟨s2, s1, fun k hk => ?_⟩
  obtain ⟨a, b, _⟩ := s3 k hk
  obtain ⟨a1, a2⟩ := sh_In_cl a (by omega)
  obtain ⟨b1, b2⟩ := sh_In_cl b (by omega)
  exact ⟨a1, a2, b1, b2⟩
theorem zz_pl (R : sh_Rf D C dX dY dP xs ys sz sx sy sc yx yy) : sh_Pl C sx sy sc := fun p hp => (R.2.2.2.2 p hp).2
theorem zz_sd (R : sh_Rf D C dX dY dP xs ys sz sx sy sc yx yy) : ∀ p, p < C → sz p = nI (sh_cl sz p) ∧ sh_cl sz p ≤ 8 := fun p hp => ⟨((zz_ok R).2 p hp).1, ((zz_ok R).2 p hp).2.1⟩
theorem zz_cov (R : sh_Rf D C dX dY dP xs ys sz sx sy sc yx yy) {p i j : Nat} (hp : p < C) : sh_cov yx yy sz p i j = sh_cov xs ys sz p i j := by
  obtain ⟨_, h2, _, _, h5⟩ := R
  obtain ⟨⟨s, s1, s2, s3⟩, _⟩ := h5 p hp
  have e := sh_clE s2 (by omega)
  unfold sh_cov
  refine sh_xs_congr _ (fun k hk => ?_)
  rw [e] at hk
  have ht : sh_to sz (8 * p + k) = 8 * p + (if k + 1 < s then k + 1 else 0) := by
    unfold sh_to
    rw [show (8 * p + k) / 8 = p by omega, show (8 * p + k) % 8 = k by omega, e]
  have hz : (if k + 1 < s then k + 1 else 0) < s := by split <;> omega
  unfold sh_le
  rw [ht]
  generalize (if k + 1 < s then k + 1 else 0) = z at *
  rw [(s3 k hk).2.2.1, (s3 k hk).2.2.2, (s3 z hz).2.2.1, (s3 z hz).2.2.2]
theorem zz_ow (R : sh_Rf D C dX dY dP xs ys sz sx sy sc yx yy) {i j : Nat} : sh_ow C yx yy sz sx sy sc i j = sh_ow C xs ys sz sx sy sc i j :=
  sh_fr_congr C (fun q hq => zz_cov R hq) (fun q _ => rfl)
end
theorem sh_Pg_move {xs ys sz sx sy sc yx yy xs' ys' sz' sx' sy' sc' yx' yy' : Nat → Int32} {p q : Nat} (h : sh_Pg xs ys sz sx sy sc yx yy q) (h1 : sz' p = sz q) (h2 : sx' p = sx q) (h3 : sy' p = sy q) (h4 : sc' p = sc q)
    (h5 : ∀ k, k < 8 → xs' (8 * p + k) = xs (8 * q + k) ∧ ys' (8 * p + k) = ys (8 * q + k) ∧ yx' (8 * p + k) = yx (8 * q + k) ∧ yy' (8 * p + k) = yy (8 * q + k)) :
    sh_Pg xs' ys' sz' sx' sy' sc' yx' yy' p := by
  obtain ⟨⟨s, s1, s2, s3⟩, t⟩ := h
  unfold sh_Pg
  rw [h1, h2, h3, h4]
  refine ⟨⟨s, s1, s2, fun k hk => ?_⟩, t⟩
  obtain ⟨a, b, c, d⟩ := h5 k (by omega)
  rw [a, b, c, d]
  exact s3 k hk
theorem i_up {k : Nat} {u : SX} {v : SY} (h : i_Rel k u v) : i_Rel (k + 4) u v := h
theorem i_vc0 : wpX_init (fun u => wpY_init (fun v => i_Rel 0 u v)) := by
  refine ⟨0, 0, rfl, rfl, rfl, rfl, rfl, rfl, rfl, rfl, rfl, rfl, rfl, ⟨by omega, by omega, ?_, fun k hk => absurd hk (by omega), fun p hp => absurd hp (by omega)⟩, fun z => absurd rfl z⟩
  show sh_Pb 0 0 0
  unfold sh_Pb
  decide
end
section
/-! the calls that draw: point, clear, plane, draw, tilt, drawn -/
theorem sh_In_of {x M : Int32} {N : Nat} (hM : M.toInt = N) (h0 : ¬ x < 0) (h1 : ¬ M < x) : sh_In x N := by
  obtain ⟨j, hj, e⟩ := nI_of2 hM h0 (Int32.not_lt.mp h1)
  exact ⟨j, hj, e⟩
theorem i_vc_clear {k : Nat} {u : SX} {v : SY} (I : i_Rel k u v) (hk : k + 4 ≤ 2048) : wpX_clear (fun r u' => wpY_clear (fun r' v' => r' = r ∧ i_Rel (k + 4) u' v') v) u := by
  refine zz_el (P := fun u v => wpX_clear (fun r u' => wpY_clear (fun r' v' => r' = r ∧ i_Rel (k + 4) u' v') v) u) ?_ I
  intro D C ac cu dX dY dP xs ys sz sx sy sc bk nx lr co re st sr he av ow ms yx yy R G
  exact ⟨rfl, zz_in (D := 0) ⟨by omega, R.2.1, R.2.2.1, fun q hq => absurd hq (by omega), R.2.2.2.2⟩ G⟩
theorem i_vc_drawn {k : Nat} {u : SX} {v : SY} (I : i_Rel k u v) (hk : k + 4 ≤ 2048) : wpX_drawn (fun r => wpY_drawn (fun r' => r' = r ∧ i_Rel (k + 4) u v) v) u := by
  have I2 := I
  revert I2
  refine zz_el (P := fun u v => i_Rel k u v → wpX_drawn (fun r => wpY_drawn (fun r' => r' = r ∧ i_Rel (k + 4) u v) v) u) ?_ I
  intro D C ac cu dX dY dP xs ys sz sx sy sc bk nx lr co re st sr he av ow ms yx yy R G I2
  exact ⟨rfl, I2⟩
theorem i_vc_point {k : Nat} {u : SX} {v : SY} (I : i_Rel k u v) (hk : k + 4 ≤ 2048) (v1 : Int32) (v2 : Int32) : wpX_point (fun r u' => wpY_point (fun r' v' => r' = r ∧ i_Rel (k + 4) u' v') v v1 v2) u v1 v2 := by
  refine zz_el (P := fun u v => wpX_point (fun r u' => wpY_point (fun r' v' => r' = r ∧ i_Rel (k + 4) u' v') v v1 v2) u v1 v2) ?_ I
  intro D C ac cu dX dY dP xs ys sz sx sy sc bk nx lr co re st sr he av ow ms yx yy R G
  unfold wpX_point wpX_onGrid wpY_point
  dsimp only
  by_cases c1 : v1 < 0
  · exact br_t c1 (br_t rfl (br_t c1 ⟨rfl, zz_in R G⟩))
  by_cases c2 : 24 < v1
  · exact br_f c1 (br_t c2 (br_t rfl (br_f c1 (br_t c2 ⟨rfl, zz_in R G⟩))))
  by_cases c3 : v2 < 0
  · exact br_f c1 (br_f c2 (br_t c3 (br_t rfl (br_f c1 (br_f c2 (br_t c3 ⟨rfl, zz_in R G⟩))))))
  by_cases c4 : 12 < v2
  · exact br_f c1 (br_f c2 (br_f c3 (br_t c4 (br_t rfl (br_f c1 (br_f c2 (br_f c3 (br_f (Int32.not_le.mpr c4) ⟨rfl, zz_in R G⟩))))))))
  refine br_f c1 (br_f c2 (br_f c3 (br_f c4 (br_f (by decide) ?_))))
  obtain ⟨R1, R2, R3, R4, R5⟩ := R
  by_cases d : D = 8
  · subst d
    exact br_t rfl (br_f c1 (br_f c2 (br_f c3 (br_t (Int32.not_lt.mp c4) (br_f (by decide) ⟨rfl, zz_in ⟨R1, R2, R3, R4, R5⟩ G⟩)))))
  · have e48 : 48 + nI D = nI (48 + D) := nI_add 48 D
    have i8 : vp_in (nI D) 8 := vp_in_nI (by omega) (by omega)
    have i56 : vp_in (nI (48 + D)) 56 := vp_in_nI (by omega) (by omega)
    rw [nI_clamp (show D < 2 ^ 31 by omega), e48, nI_clamp (show 48 + D < 2 ^ 31 by omega)]
    have hne : ¬ nI D = 8 := fun z => d ((nI_eq (b := 8) (by omega) (by omega)).mp z)
    refine br_f hne ⟨i8, nm_e ⟨i8, nm_e (nm_r (nI_1 D) (br_f c1 (br_f c2 (br_f c3 (br_t (Int32.not_lt.mp c4) (br_t (nI_lt (b := 8) (by omega) (by omega)) ⟨i56, nm_e ⟨i56, nm_e (nm_r (nI_1 D) ⟨rfl, zz_in ⟨by omega, R2, R3, fun q hq => ?_, fun p hp => ?_⟩ G⟩)⟩⟩))))))⟩⟩
    · by_cases c : q = D
      · subst c
        simp only [pk_us]
        exact ⟨sh_In_of (M := 24) (by decide) c1 c2, sh_In_of (M := 12) (by decide) c3 c4, trivial, trivial⟩
      · rw [pk_un c, pk_un c, pk_un (by omega), pk_un (by omega)]
        exact R4 q (by omega)
    · exact sh_Pg_move (R5 p hp) rfl rfl rfl rfl (fun t ht => ⟨rfl, rfl, pk_un (by omega), pk_un (by omega)⟩)
theorem i_vc_plane {k : Nat} {u : SX} {v : SY} (I : i_Rel k u v) (hk : k + 4 ≤ 2048) (v1 : Int32) (v2 : Int32) (v3 : Int32) : wpX_plane (fun r u' => wpY_plane (fun r' v' => r' = r ∧ i_Rel (k + 4) u' v') v v1 v2 v3) u v1 v2 v3 := by
  refine zz_el (P := fun u v => wpX_plane (fun r u' => wpY_plane (fun r' v' => r' = r ∧ i_Rel (k + 4) u' v') v v1 v2 v3) u v1 v2 v3) ?_ I
  intro D C ac cu dX dY dP xs ys sz sx sy sc bk nx lr co re st sr he av ow ms yx yy R G
  unfold wpX_plane wpY_plane
  dsimp only
  by_cases c1 : v1 < (-30)
  · exact br_t c1 (br_t c1 ⟨rfl, zz_in R G⟩)
  by_cases c2 : 30 < v1
  · exact br_f c1 (br_t c2 (br_f c1 (br_t c2 ⟨rfl, zz_in R G⟩)))
  by_cases c3 : v2 < (-30)
  · exact br_f c1 (br_f c2 (br_t c3 (br_f c1 (br_f c2 (br_t c3 ⟨rfl, zz_in R G⟩)))))
  by_cases c4 : v2 ≤ 30
  · by_cases c5 : v3 < (-3000)
    · exact br_f c1 (br_f c2 (br_f c3 (br_t c4 (br_t c5 (br_f c1 (br_f c2 (br_f c3 (br_t c4 (br_t c5 ⟨rfl, zz_in R G⟩)))))))))
    by_cases c6 : v3 ≤ 3000
    · refine br_f c1 (br_f c2 (br_f c3 (br_t c4 (br_f c5 (br_t c6 (nm_e (nm_e (nm_e (br_f c1 (br_f c2 (br_f c3 (br_t c4 (br_f c5 (br_t c6 ⟨rfl, ?_⟩))))))))))))))
      obtain ⟨R1, R2, R3, R4, R5⟩ := R
      refine zz_in (dP := upd (upd (upd dP 0 v1) 1 v2) 2 v3) ⟨R1, R2, ?_, R4, R5⟩ G
      show sh_Pb v1 v2 v3
      have h1 : (-30 : Int32).toInt = -30 := by decide
      have h2 : (30 : Int32).toInt = 30 := by decide
      have h3 : (-3000 : Int32).toInt = -3000 := by decide
      have h4 : (3000 : Int32).toInt = 3000 := by decide
      rw [Int32.lt_iff_toInt_lt] at c1 c2 c3 c5
      rw [Int32.le_iff_toInt_le] at c4 c6
      unfold sh_Pb
      omega
    · exact br_f c1 (br_f c2 (br_f c3 (br_t c4 (br_f c5 (br_f c6 (br_f c1 (br_f c2 (br_f c3 (br_t c4 (br_f c5 (br_f c6 ⟨rfl, zz_in R G⟩)))))))))))
  · exact br_f c1 (br_f c2 (br_f c3 (br_f c4 (br_f c1 (br_f c2 (br_f c3 (br_f c4 ⟨rfl, zz_in R G⟩)))))))
section
variable {ds cn ac cu : Int32} {dX dY dP xs ys sz sx sy sc bk nx lr co re st sr he av ow ms : Nat → Int32} {C : Nat} {pt dA dB dC dn : Int32} {yx yy sd pa pb pc : Nat → Int32}
theorem xm_take {post : SX → Prop} {p : Nat} (hp : p < 6) (h : post (ds, cn, ac, 0, dX, dY, dP, xs, ys, sz, upd sx p (dP 0), upd sy p (dP 1), upd sc p (dP 2), bk, nx, lr, co, re, st, sr, he, av, ow, ms)) : wpX_takePlane post (ds, cn, ac, cu, dX, dY, dP, xs, ys, sz, sx, sy, sc, bk, nx, lr, co, re, st, sr, he, av, ow, ms) (nI p) := by
  unfold wpX_takePlane
  dsimp only
  rw [nI_clamp (show p < 2 ^ 31 by omega)]
  have i6 : vp_in (nI p) 6 := vp_in_nI hp (by omega)
  exact ⟨i6, nm_e ⟨i6, nm_e ⟨i6, nm_e h⟩⟩⟩
theorem ym_give {post : SY → Prop} {p : Nat} (hp : p < 6) (h : post (pt, dA, dB, dC, dn, yx, yy, sd, upd pa p dA, upd pb p dB, upd pc p dC)) : wpY_give post (pt, dA, dB, dC, dn, yx, yy, sd, pa, pb, pc) (nI p) := by
  unfold wpY_give
  dsimp only
  rw [nI_clamp (show p < 2 ^ 31 by omega)]
  have i6 : vp_in (nI p) 6 := vp_in_nI hp (by omega)
  exact ⟨i6, nm_e ⟨i6, nm_e ⟨i6, nm_e h⟩⟩⟩
theorem xm_isDrawn {post : Int32 → Prop} {v : Int32} (hC : C ≤ 6) (h0 : ¬ (∃ p, p < C ∧ v = nI p) → post 0) (h1 : (∃ p, p < C ∧ v = nI p) → post 1) : wpX_isDrawn post (ds, nI C, ac, cu, dX, dY, dP, xs, ys, sz, sx, sy, sc, bk, nx, lr, co, re, st, sr, he, av, ow, ms) v := by
  unfold wpX_isDrawn
  dsimp only
  refine br_c (fun c => h0 ?_) (fun c => br_c (fun d => h0 ?_) (fun d => h1 ?_))
  · rintro ⟨p, hp, rfl⟩
    exact nI_pos (by omega) c
  · rintro ⟨p, hp, rfl⟩
    exact nI_ge hp (by omega) d
  · obtain ⟨j, hj, rfl⟩ := nI_of c
    refine ⟨j, ?_, rfl⟩
    rw [nI_leI (by omega) hj] at d
    omega
theorem ym_missing {post : Int32 → Prop} {v : Int32} (hC : C ≤ 6) (h1 : ¬ (∃ p, p < C ∧ v = nI p) → post 1) (h0 : (∃ p, p < C ∧ v = nI p) → post 0) : wpY_missing post (pt, dA, dB, dC, nI C, yx, yy, sd, pa, pb, pc) v := by
  unfold wpY_missing
  dsimp only
  refine br_c (fun c => h1 ?_) (fun c => br_c (fun d => h1 ?_) (fun d => br_c (fun e => h0 ?_) (fun e => h1 ?_)))
  · rintro ⟨p, hp, rfl⟩
    exact nI_pos (by omega) c
  · rintro ⟨p, hp, rfl⟩
    exact nI_ge hp (by omega) d
  · obtain ⟨j, hj, rfl⟩ := nI_of c
    refine ⟨j, ?_, rfl⟩
    rw [nI_leI (by omega) hj] at d
    omega
  · rintro ⟨p, hp, rfl⟩
    exact e (nI_lt (b := 6) (by omega) (by omega))
theorem xm_d24 {post : Int32 → SX → Prop} {D : Nat} {xs0 ys0 : Nat → Int32} (hD : D ≤ 8) (hC : C < 6)
    (h : ∀ xs ys : Nat → Int32, (∀ t, t < D → xs (8 * C + t) = dX t ∧ ys (8 * C + t) = dY t) → (∀ q, q < 8 * C → xs q = xs0 q ∧ ys q = ys0 q) →
      post (nI C) (nI D, nI (C + 1), ac, 0, dX, dY, dP, xs, ys, upd sz C (nI D), upd sx C (dP 0), upd sy C (dP 1), upd sc C (dP 2), bk, nx, lr, co, re, st, sr, he, av, ow, ms)) :
    ∀ (m t n : Nat) (xs ys : Nat → Int32), t + m = D → m < n → (∀ q, q < t → xs (8 * C + q) = dX q ∧ ys (8 * C + q) = dY q) → (∀ q, q < 8 * C → xs q = xs0 q ∧ ys q = ys0 q) →
      wX_draw_24 post (nI D) (nI C) ac cu n (nI t) dX dY dP xs ys sz sx sy sc bk nx lr co re st sr he av ow ms := by
  intro m
  induction m with
  | zero =>
    intro t n xs ys ht hn h1 h2
    obtain ⟨n, rfl⟩ : ∃ n', n = n' + 1 := ⟨n - 1, by omega⟩
    rw [wX_draw_24]
    dsimp only
    rw [nI_clamp (show C < 2 ^ 31 by omega)]
    refine br_t (nI_le (by omega) (by omega)) ⟨vp_in_nI hC (by omega), nm_e (xm_take hC (nm_r (nI_1 C) ?_))⟩
    rw [nI_pred]
    exact h xs ys (fun q hq => h1 q (by omega)) h2
  | succ m ih =>
    intro t n xs ys ht hn h1 h2
    obtain ⟨n, rfl⟩ : ∃ n', n = n' + 1 := ⟨n - 1, by omega⟩
    rw [wX_draw_24]
    dsimp only
    rw [sh_8k, nI_clamp (show t < 2 ^ 31 by omega), nI_clamp (show 8 * C + t < 2 ^ 31 by omega)]
    have i8 : vp_in (nI t) 8 := vp_in_nI (by omega) (by omega)
    have i48 : vp_in (nI (8 * C + t)) 48 := vp_in_nI (by omega) (by omega)
    refine br_f (nI_ge (by omega) (by omega)) ⟨i8, i48, nm_e ⟨i8, i48, nm_e (nm_r (nI_1 t) (ih (t + 1) n _ _ (by omega) (by omega) (fun q hq => ?_) (fun q hq => ?_)))⟩⟩
    · by_cases c : q = t
      · subst c
        rw [pk_us, pk_us]
        exact ⟨rfl, rfl⟩
      · rw [pk_un (by omega), pk_un (by omega)]
        exact h1 q (by omega)
    · rw [pk_un (by omega), pk_un (by omega)]
      exact h2 q hq
theorem ym_d26 {post : Int32 → SY → Prop} {yx0 yy0 : Nat → Int32} (hC : C < 6)
    (h : ∀ yx yy : Nat → Int32, (∀ t, t < 8 → yx (8 * C + t) = yx0 (48 + t) ∧ yy (8 * C + t) = yy0 (48 + t)) → (∀ q, (q < 8 * C ∨ 48 ≤ q) → yx q = yx0 q ∧ yy q = yy0 q) →
      post (nI C) (pt, dA, dB, dC, nI (C + 1), yx, yy, upd sd C pt, upd pa C dA, upd pb C dB, upd pc C dC)) :
    ∀ (m t n : Nat) (yx yy : Nat → Int32), t + m = 8 → m < n → (∀ q, q < t → yx (8 * C + q) = yx0 (48 + q) ∧ yy (8 * C + q) = yy0 (48 + q)) → (∀ q, (q < 8 * C ∨ 48 ≤ q) → yx q = yx0 q ∧ yy q = yy0 q) →
      wY_draw_26 post (nI C) pt dA dB dC (nI C) n (nI t) yx yy sd pa pb pc := by
  intro m
  induction m with
  | zero =>
    intro t n yx yy ht hn h1 h2
    obtain ⟨n, rfl⟩ : ∃ n', n = n' + 1 := ⟨n - 1, by omega⟩
    rw [wY_draw_26]
    dsimp only
    rw [nI_clamp (show C < 2 ^ 31 by omega)]
    exact br_t (nI_le (a := 8) (by omega) (by omega)) ⟨vp_in_nI hC (by omega), nm_e (ym_give hC (nm_r (nI_1 C) (h yx yy (fun q hq => h1 q (by omega)) h2)))⟩
  | succ m ih =>
    intro t n yx yy ht hn h1 h2
    obtain ⟨n, rfl⟩ : ∃ n', n = n' + 1 := ⟨n - 1, by omega⟩
    rw [wY_draw_26]
    dsimp only
    have e48 : 48 + nI t = nI (48 + t) := nI_add 48 t
    rw [sh_8k, e48, nI_clamp (show 48 + t < 2 ^ 31 by omega), nI_clamp (show 8 * C + t < 2 ^ 31 by omega)]
    have i1 : vp_in (nI (48 + t)) 56 := vp_in_nI (by omega) (by omega)
    have i2 : vp_in (nI (8 * C + t)) 56 := vp_in_nI (by omega) (by omega)
    refine br_f (nI_ge (b := 8) (by omega) (by omega)) ⟨i1, i2, nm_e ⟨i1, i2, nm_e (nm_r (nI_1 t) (ih (t + 1) n _ _ (by omega) (by omega) (fun q hq => ?_) (fun q hq => ?_)))⟩⟩
    · by_cases c : q = t
      · subst c
        rw [pk_us, pk_us]
        exact h2 (48 + q) (by omega)
      · rw [pk_un (by omega), pk_un (by omega)]
        exact h1 q (by omega)
    · rw [pk_un (by omega), pk_un (by omega)]
      exact h2 q hq
end
theorem i_vc_draw {k : Nat} {u : SX} {v : SY} (I : i_Rel k u v) (hk : k + 4 ≤ 2048) : wpX_draw (fun r u' => wpY_draw (fun r' v' => r' = r ∧ i_Rel (k + 4) u' v') v) u := by
  refine zz_el (P := fun u v => wpX_draw (fun r u' => wpY_draw (fun r' v' => r' = r ∧ i_Rel (k + 4) u' v') v) u) ?_ I
  intro D C ac cu dX dY dP xs ys sz sx sy sc bk nx lr co re st sr he av ow ms yx yy R G
  unfold wpX_draw wpY_draw
  dsimp only
  obtain ⟨R1, R2, R3, R4, R5⟩ := R
  by_cases c : 3 ≤ D
  · have c3 : (3 : Int32) ≤ nI D := nI_le (a := 3) c (by omega)
    by_cases d : C = 6
    · subst d
      exact br_t c3 (br_t rfl (br_t c3 (br_f (by decide) ⟨rfl, zz_in ⟨R1, R2, R3, R4, R5⟩ G⟩)))
    · have hne : ¬ nI C = 6 := fun z => d ((nI_eq (b := 6) (by omega) (by omega)).mp z)
      have hlt : nI C < 6 := nI_lt (b := 6) (by omega) (by omega)
      refine br_t c3 (br_f hne ⟨D + 1, xm_d24 (xs0 := xs) (ys0 := ys) R1 (by omega) (fun xs1 ys1 a1 a2 => ?_) D 0 _ xs ys (by omega) (by omega) (fun q hq => absurd hq (by omega)) (fun q _ => ⟨rfl, rfl⟩)⟩)
      refine br_t c3 (br_t hlt ⟨9, ym_d26 (yx0 := yx) (yy0 := yy) (by omega) (fun yx1 yy1 b1 b2 => ?_) 8 0 _ yx yy (by omega) (by omega) (fun q hq => absurd hq (by omega)) (fun q _ => ⟨rfl, rfl⟩)⟩)
      refine ⟨rfl, zz_in ⟨R1, by omega, R3, fun q hq => ?_, fun p hp => ?_⟩ (fun z => absurd rfl z)⟩
      · rw [(b2 (48 + q) (by omega)).1, (b2 (48 + q) (by omega)).2]
        exact R4 q hq
      · by_cases e : p = C
        · subst e
          unfold sh_Pg
          rw [pk_us, pk_us, pk_us, pk_us]
          refine ⟨⟨D, R1, rfl, fun t ht => ?_⟩, R3⟩
          obtain ⟨r1, r2, r3, r4⟩ := R4 t ht
          rw [(a1 t ht).1, (a1 t ht).2, (b1 t (by omega)).1, (b1 t (by omega)).2]
          exact ⟨r1, r2, r3, r4⟩
        · refine sh_Pg_move (R5 p (by omega)) (pk_un e) (pk_un e) (pk_un e) (pk_un e) (fun t ht => ?_)
          exact ⟨(a2 _ (by omega)).1, (a2 _ (by omega)).2, (b2 _ (by omega)).1, (b2 _ (by omega)).2⟩
  · have c3 : ¬ (3 : Int32) ≤ nI D := nI_ge (b := 3) (by omega) (by omega)
    exact br_f c3 (br_f c3 ⟨rfl, zz_in ⟨R1, R2, R3, R4, R5⟩ G⟩)
theorem i_vc_tilt {k : Nat} {u : SX} {v : SY} (I : i_Rel k u v) (hk : k + 4 ≤ 2048) (v1 : Int32) : wpX_tilt (fun r u' => wpY_tilt (fun r' v' => r' = r ∧ i_Rel (k + 4) u' v') v v1) u v1 := by
  refine zz_el (P := fun u v => wpX_tilt (fun r u' => wpY_tilt (fun r' v' => r' = r ∧ i_Rel (k + 4) u' v') v v1) u v1) ?_ I
  intro D C ac cu dX dY dP xs ys sz sx sy sc bk nx lr co re st sr he av ow ms yx yy R G
  unfold wpX_tilt wpY_tilt
  dsimp only
  have hC := R.2.1
  refine xm_isDrawn hC (fun c => br_t rfl (ym_missing hC (fun _ => br_f (by decide) ⟨rfl, zz_in R G⟩) (fun d => absurd d c))) (fun c => br_f (by decide) ?_)
  obtain ⟨p, hp, rfl⟩ := c
  refine xm_take (by omega) (ym_missing hC (fun d => absurd ⟨p, hp, rfl⟩ d) (fun _ => br_t rfl (ym_give (by omega) ⟨rfl, ?_⟩)))
  obtain ⟨R1, R2, R3, R4, R5⟩ := R
  refine zz_in ⟨R1, R2, R3, R4, fun q hq => ?_⟩ (fun z => absurd rfl z)
  by_cases e : q = p
  · subst e
    obtain ⟨s, t⟩ := R5 q hq
    unfold sh_Pg
    dsimp only
    rw [pk_us, pk_us, pk_us]
    exact ⟨s, R3⟩
  · exact sh_Pg_move (R5 q hq) rfl (pk_un e) (pk_un e) (pk_un e) (fun t ht => ⟨rfl, rfl, rfl, rfl⟩)
end
section
/-! remove: both sides move the same cells down -/
def sh_sf (d : Nat) (a : Nat → Int32) (A B : Nat) : Nat → Int32 := fun q => if A ≤ q ∧ q < B then a (q + d) else a q
theorem sh_sf_0 (d : Nat) (a : Nat → Int32) (A : Nat) : sh_sf d a A A = a := by
  funext q
  exact if_neg (by omega)
theorem sh_sf_s {d : Nat} {a : Nat → Int32} {A B E : Nat} (h : A ≤ B) (hd : 0 < d) (hE : E = B + d) : upd (sh_sf d a A B) B (sh_sf d a A B E) = sh_sf d a A (B + 1) := by
  subst hE
  funext q
  by_cases c : q = B
  · subst c
    rw [pk_us]
    unfold sh_sf
    rw [if_neg (by omega), if_pos (by omega)]
  · rw [pk_un c]
    unfold sh_sf
    by_cases e : A ≤ q ∧ q < B
    · rw [if_pos e, if_pos (by omega)]
    · rw [if_neg e, if_neg (by omega)]
theorem sh_sf_in {d : Nat} {a : Nat → Int32} {A B q : Nat} (h : A ≤ q) (h2 : q < B) : sh_sf d a A B q = a (q + d) := if_pos ⟨h, h2⟩
theorem sh_sf_out {d : Nat} {a : Nat → Int32} {A B q : Nat} (h : ¬ (A ≤ q ∧ q < B)) : sh_sf d a A B q = a q := if_neg h
section
variable {ds cn ac cu : Int32} {dX dY dP xs ys sz sx sy sc bk nx lr co re st sr he av ow ms : Nat → Int32} {pt dA dB dC dn : Int32} {yx yy sd pa pb pc : Nat → Int32} {g b c : Nat}
theorem xn_24 {post : Int32 → SX → Prop} {J14 : Int32 → (Nat → Int32) → (Nat → Int32) → (Nat → Int32) → (Nat → Int32) → (Nat → Int32) → (Nat → Int32) → (Nat → Int32) → (Nat → Int32) → (Nat → Int32) → (Nat → Int32) → (Nat → Int32) → (Nat → Int32) → (Nat → Int32) → (Nat → Int32) → (Nat → Int32) → (Nat → Int32) → (Nat → Int32) → (Nat → Int32) → (Nat → Int32) → (Nat → Int32) → Prop} (hg : g ≤ b) (hb : b + 1 < 6)
    (hJ : J14 (nI (b + 1 + 1)) dX dY dP (sh_sf 8 xs (8 * g) (8 * (b + 1))) (sh_sf 8 ys (8 * g) (8 * (b + 1))) (sh_sf 1 sz g (b + 1)) (sh_sf 1 sx g (b + 1)) (sh_sf 1 sy g (b + 1)) (sh_sf 1 sc g (b + 1)) bk nx lr co re st sr he av ow ms) :
    ∀ (m k n : Nat), k + m = 8 → m < n → wX_remove_24 post J14 (nI (b + 1)) ds cn ac cu n (nI k) dX dY dP (sh_sf 8 xs (8 * g) (8 * b + k)) (sh_sf 8 ys (8 * g) (8 * b + k)) (sh_sf 1 sz g b) (sh_sf 1 sx g b) (sh_sf 1 sy g b) (sh_sf 1 sc g b) bk nx lr co re st sr he av ow ms := by
  intro m
  induction m with
  | zero =>
    intro k n hk hn
    obtain ⟨n, rfl⟩ : ∃ n', n = n' + 1 := ⟨n - 1, by omega⟩
    rw [wX_remove_24]
    dsimp only
    rw [nI_pred, nI_clamp (show b < 2 ^ 31 by omega), nI_clamp (show b + 1 < 2 ^ 31 by omega)]
    have i1 : vp_in (nI (b + 1)) 6 := vp_in_nI (by omega) (by omega)
    have i2 : vp_in (nI b) 6 := vp_in_nI (by omega) (by omega)
    rw [show 8 * b + k = 8 * (b + 1) by omega]
    exact br_t (nI_le (a := 8) (by omega) (by omega)) ⟨i1, i2, nm_r (sh_sf_s hg (by omega) rfl) ⟨i1, i2, nm_r (sh_sf_s hg (by omega) rfl) ⟨i1, i2, nm_r (sh_sf_s hg (by omega) rfl) ⟨i1, i2, nm_r (sh_sf_s hg (by omega) rfl) (nm_r (nI_1 (b + 1)) hJ)⟩⟩⟩⟩
  | succ m ih =>
    intro k n hk hn
    obtain ⟨n, rfl⟩ : ∃ n', n = n' + 1 := ⟨n - 1, by omega⟩
    rw [wX_remove_24]
    dsimp only
    rw [nI_pred, sh_8k, sh_8k, nI_clamp (show 8 * b + k < 2 ^ 31 by omega), nI_clamp (show 8 * (b + 1) + k < 2 ^ 31 by omega)]
    have i1 : vp_in (nI (8 * (b + 1) + k)) 48 := vp_in_nI (by omega) (by omega)
    have i2 : vp_in (nI (8 * b + k)) 48 := vp_in_nI (by omega) (by omega)
    exact br_f (nI_ge (b := 8) (by omega) (by omega)) ⟨i1, i2, nm_r (sh_sf_s (by omega) (by omega) (by omega)) ⟨i1, i2, nm_r (sh_sf_s (by omega) (by omega) (by omega)) (nm_r (nI_1 k) (ih (k + 1) n (by omega) (by omega)))⟩⟩
theorem xn_14 {post : Int32 → SX → Prop} (hc : c + 1 ≤ 6)
    (h : post (nI c) (ds, nI c, ac, 0, dX, dY, dP, sh_sf 8 xs (8 * g) (8 * c), sh_sf 8 ys (8 * g) (8 * c), sh_sf 1 sz g c, sh_sf 1 sx g c, sh_sf 1 sy g c, sh_sf 1 sc g c, bk, nx, lr, co, re, st, sr, he, av, ow, ms)) :
    ∀ (m b n : Nat), b + m = c → m < n → g ≤ b → wX_remove_14 post ds (nI (c + 1)) ac cu n (nI (b + 1)) dX dY dP (sh_sf 8 xs (8 * g) (8 * b)) (sh_sf 8 ys (8 * g) (8 * b)) (sh_sf 1 sz g b) (sh_sf 1 sx g b) (sh_sf 1 sy g b) (sh_sf 1 sc g b) bk nx lr co re st sr he av ow ms := by
  intro m
  induction m with
  | zero =>
    intro b n hb hn hg
    obtain ⟨n, rfl⟩ : ∃ n', n = n' + 1 := ⟨n - 1, by omega⟩
    rw [wX_remove_14]
    rw [show b = c by omega]
    exact br_t (nI_le (by omega) (by omega)) (nm_r (nI_pred c) h)
  | succ m ih =>
    intro b n hb hn hg
    obtain ⟨n, rfl⟩ : ∃ n', n = n' + 1 := ⟨n - 1, by omega⟩
    rw [wX_remove_14]
    exact br_f (nI_ge (by omega) (by omega)) ⟨9, xn_24 hg (by omega) (ih (b + 1) n (by omega) (by omega) (by omega)) 8 0 9 (by omega) (by omega)⟩
theorem yn_29 {post : Int32 → SY → Prop} {J12 : Int32 → (Nat → Int32) → (Nat → Int32) → (Nat → Int32) → (Nat → Int32) → (Nat → Int32) → (Nat → Int32) → Prop} (hg : g ≤ b) (hb : b + 1 < 6)
    (hJ : J12 (nI (b + 1)) (sh_sf 8 yx (8 * g) (8 * (b + 1))) (sh_sf 8 yy (8 * g) (8 * (b + 1))) (sh_sf 1 sd g (b + 1)) (sh_sf 1 pa g (b + 1)) (sh_sf 1 pb g (b + 1)) (sh_sf 1 pc g (b + 1))) :
    ∀ (m k n : Nat), k + m = 8 → m < n → wY_remove_29 post J12 (nI b) pt dA dB dC dn n (nI k) (sh_sf 8 yx (8 * g) (8 * b + k)) (sh_sf 8 yy (8 * g) (8 * b + k)) (sh_sf 1 sd g b) (sh_sf 1 pa g b) (sh_sf 1 pb g b) (sh_sf 1 pc g b) := by
  intro m
  induction m with
  | zero =>
    intro k n hk hn
    obtain ⟨n, rfl⟩ : ∃ n', n = n' + 1 := ⟨n - 1, by omega⟩
    rw [wY_remove_29]
    dsimp only
    rw [nI_1, nI_clamp (show b < 2 ^ 31 by omega), nI_clamp (show b + 1 < 2 ^ 31 by omega)]
    have i1 : vp_in (nI (b + 1)) 6 := vp_in_nI (by omega) (by omega)
    have i2 : vp_in (nI b) 6 := vp_in_nI (by omega) (by omega)
    rw [show 8 * b + k = 8 * (b + 1) by omega]
    exact br_t (nI_le (a := 8) (by omega) (by omega)) ⟨i1, i2, nm_r (sh_sf_s hg (by omega) rfl) ⟨i1, i2, nm_r (sh_sf_s hg (by omega) rfl) ⟨i1, i2, nm_r (sh_sf_s hg (by omega) rfl) ⟨i1, i2, nm_r (sh_sf_s hg (by omega) rfl) (nm_e hJ)⟩⟩⟩⟩
  | succ m ih =>
    intro k n hk hn
    obtain ⟨n, rfl⟩ : ∃ n', n = n' + 1 := ⟨n - 1, by omega⟩
    rw [wY_remove_29]
    dsimp only
    rw [nI_1 b, sh_8k, sh_8k, nI_clamp (show 8 * b + k < 2 ^ 31 by omega), nI_clamp (show 8 * (b + 1) + k < 2 ^ 31 by omega)]
    have i1 : vp_in (nI (8 * (b + 1) + k)) 56 := vp_in_nI (by omega) (by omega)
    have i2 : vp_in (nI (8 * b + k)) 56 := vp_in_nI (by omega) (by omega)
    exact br_f (nI_ge (b := 8) (by omega) (by omega)) ⟨i1, i2, nm_r (sh_sf_s (by omega) (by omega) (by omega)) ⟨i1, i2, nm_r (sh_sf_s (by omega) (by omega) (by omega)) (nm_r (nI_1 k) (ih (k + 1) n (by omega) (by omega)))⟩⟩
theorem yn_12 {post : Int32 → SY → Prop} (hc : c + 1 ≤ 6)
    (h : post (nI c) (pt, dA, dB, dC, nI c, sh_sf 8 yx (8 * g) (8 * c), sh_sf 8 yy (8 * g) (8 * c), sh_sf 1 sd g c, sh_sf 1 pa g c, sh_sf 1 pb g c, sh_sf 1 pc g c)) :
    ∀ (m b n : Nat), b + m = c → m < n → g ≤ b → wY_remove_12 post pt dA dB dC (nI (c + 1)) n (nI b) (sh_sf 8 yx (8 * g) (8 * b)) (sh_sf 8 yy (8 * g) (8 * b)) (sh_sf 1 sd g b) (sh_sf 1 pa g b) (sh_sf 1 pb g b) (sh_sf 1 pc g b) := by
  intro m
  induction m with
  | zero =>
    intro b n hb hn hg
    obtain ⟨n, rfl⟩ : ∃ n', n = n' + 1 := ⟨n - 1, by omega⟩
    rw [wY_remove_12]
    dsimp only
    rw [show b = c by omega, nI_pred]
    refine br_t (nI_le (by omega) (by omega)) ?_
    unfold wY_remove_151
    exact nm_r (nI_pred c) h
  | succ m ih =>
    intro b n hb hn hg
    obtain ⟨n, rfl⟩ : ∃ n', n = n' + 1 := ⟨n - 1, by omega⟩
    rw [wY_remove_12]
    dsimp only
    rw [nI_pred]
    exact br_f (nI_ge (by omega) (by omega)) (br_f (nI_ge (b := 5) (by omega) (by omega)) ⟨9, yn_29 hg (by omega) (ih (b + 1) n (by omega) (by omega) (by omega)) 8 0 9 (by omega) (by omega)⟩)
end
theorem i_vc_remove {k : Nat} {u : SX} {v : SY} (I : i_Rel k u v) (hk : k + 4 ≤ 2048) (v1 : Int32) : wpX_remove (fun r u' => wpY_remove (fun r' v' => r' = r ∧ i_Rel (k + 4) u' v') v v1) u v1 := by
  refine zz_el (P := fun u v => wpX_remove (fun r u' => wpY_remove (fun r' v' => r' = r ∧ i_Rel (k + 4) u' v') v v1) u v1) ?_ I
  intro D C ac cu dX dY dP xs ys sz sx sy sc bk nx lr co re st sr he av ow ms yx yy R G
  unfold wpX_remove wpY_remove
  dsimp only
  have hC := R.2.1
  refine xm_isDrawn hC (fun c => br_t rfl (ym_missing hC (fun _ => br_f (by decide) ⟨rfl, zz_in R G⟩) (fun d => absurd d c))) (fun c => br_f (by decide) ?_)
  obtain ⟨g, hg, rfl⟩ := c
  obtain ⟨c, rfl⟩ : ∃ c, C = c + 1 := ⟨C - 1, by omega⟩
  refine nm_r (nI_1 g) ⟨c - g + 1, ?_⟩
  have key := xn_14 (ds := nI D) (ac := ac) (cu := cu) (dX := dX) (dY := dY) (dP := dP) (xs := xs) (ys := ys) (sz := sz) (sx := sx) (sy := sy) (sc := sc) (bk := bk) (nx := nx) (lr := lr) (co := co) (re := re) (st := st) (sr := sr) (he := he) (av := av) (ow := ow) (ms := ms) (g := g) (c := c)
    (post := fun r u' => wpY_missing (fun r_1 => (((r_1 = 0 → (∃ n12 : Nat, wY_remove_12 (fun r' v' => r' = r ∧ i_Rel (k + 4) u' v') (nI D) (dP 0) (dP 1) (dP 2) (nI (c + 1)) n12 (nI g) yx yy sz sx sy sc)) ∧ (¬ r_1 = 0 → ((-1 = r ∧ i_Rel (k + 4) u' (nI D, dP 0, dP 1, dP 2, nI (c + 1), yx, yy, sz, sx, sy, sc))))))) (nI D, dP 0, dP 1, dP 2, nI (c + 1), yx, yy, sz, sx, sy, sc) (nI g))
    hC ?_ (c - g) g (c - g + 1) (by omega) (by omega) (by omega)
  · simp only [sh_sf_0] at key
    exact key
  · refine ym_missing hC (fun d => absurd ⟨g, hg, rfl⟩ d) (fun _ => br_t rfl ⟨c - g + 1, ?_⟩)
    have keyY := yn_12 (pt := nI D) (dA := dP 0) (dB := dP 1) (dC := dP 2) (yx := yx) (yy := yy) (sd := sz) (pa := sx) (pb := sy) (pc := sc) (g := g) (c := c)
      (post := fun r' v' => r' = nI c ∧ i_Rel (k + 4) (nI D, nI c, ac, 0, dX, dY, dP, sh_sf 8 xs (8 * g) (8 * c), sh_sf 8 ys (8 * g) (8 * c), sh_sf 1 sz g c, sh_sf 1 sx g c, sh_sf 1 sy g c, sh_sf 1 sc g c, bk, nx, lr, co, re, st, sr, he, av, ow, ms) v')
      hC ⟨rfl, ?_⟩ (c - g) g (c - g + 1) (by omega) (by omega) (by omega)
    · simp only [sh_sf_0] at keyY
      exact keyY
    · obtain ⟨R1, R2, R3, R4, R5⟩ := R
      refine zz_in ⟨R1, by omega, R3, fun q hq => ?_, fun p hp => ?_⟩ (fun z => absurd rfl z)
      · rw [sh_sf_out (by omega), sh_sf_out (by omega)]
        exact R4 q hq
      · by_cases e : g ≤ p
        · refine sh_Pg_move (q := p + 1) (R5 (p + 1) (by omega)) (sh_sf_in e hp) (sh_sf_in e hp) (sh_sf_in e hp) (sh_sf_in e hp) (fun t ht => ?_)
          rw [show 8 * (p + 1) + t = 8 * p + t + 8 by omega]
          exact ⟨sh_sf_in (by omega) (by omega), sh_sf_in (by omega) (by omega), sh_sf_in (by omega) (by omega), sh_sf_in (by omega) (by omega)⟩
        · refine sh_Pg_move (q := p) (R5 p (by omega)) (sh_sf_out (by omega)) (sh_sf_out (by omega)) (sh_sf_out (by omega)) (sh_sf_out (by omega)) (fun t ht => ?_)
          exact ⟨sh_sf_out (by omega), sh_sf_out (by omega), sh_sf_out (by omega), sh_sf_out (by omega)⟩
end
section
/-! shift: first every corner asked, then every corner moved -/
def sh_ad (a : Nat → Int32) (d : Int32) (A B : Nat) : Nat → Int32 := fun q => if A ≤ q ∧ q < B then a q + d else a q
theorem sh_ad_0 (a : Nat → Int32) (d : Int32) (A : Nat) : sh_ad a d A A = a := by
  funext q
  exact if_neg (by omega)
theorem sh_ad_s {a : Nat → Int32} {d : Int32} {A B : Nat} (h : A ≤ B) : upd (sh_ad a d A B) B (sh_ad a d A B B + d) = sh_ad a d A (B + 1) := by
  funext q
  by_cases c : q = B
  · subst c
    rw [pk_us]
    unfold sh_ad
    rw [if_neg (by omega), if_pos (by omega)]
  · rw [pk_un c]
    unfold sh_ad
    by_cases e : A ≤ q ∧ q < B
    · rw [if_pos e, if_pos (by omega)]
    · rw [if_neg e, if_neg (by omega)]
theorem sh_ad_in {a : Nat → Int32} {d : Int32} {A B q : Nat} (h : A ≤ q) (h2 : q < B) : sh_ad a d A B q = a q + d := if_pos ⟨h, h2⟩
theorem sh_ad_out {a : Nat → Int32} {d : Int32} {A B q : Nat} (h : ¬ (A ≤ q ∧ q < B)) : sh_ad a d A B q = a q := if_neg h
def sh_on (x y : Int32) : Prop := ¬ x < 0 ∧ ¬ 24 < x ∧ ¬ y < 0 ∧ ¬ 12 < y
theorem xs_onGrid {post : Int32 → Prop} {x y : Int32} (h1 : sh_on x y → post 1) (h0 : ¬ sh_on x y → post 0) : wpX_onGrid post x y := by
  unfold wpX_onGrid
  exact br_c (fun c => h0 (fun z => z.1 c)) (fun c1 => br_c (fun c => h0 (fun z => z.2.1 c)) (fun c2 => br_c (fun c => h0 (fun z => z.2.2.1 c)) (fun c3 => br_c (fun c => h0 (fun z => z.2.2.2 c)) (fun c4 => h1 ⟨c1, c2, c3, c4⟩))))
section
variable {ds cn ac cu : Int32} {dX dY dP xs ys sz sx sy sc bk nx lr co re st sr he av ow ms : Nat → Int32} {pt dA dB dC dn : Int32} {yx yy sd pa pb pc : Nat → Int32} {g s : Nat} {x2 x3 : Int32}
theorem xs_98 {post : Int32 → SX → Prop} (hg : g < 6) (hs : s ≤ 8) (hz : sz g = nI s)
    (h : post 0 (ds, cn, ac, 0, dX, dY, dP, sh_ad xs x2 (8 * g) (8 * g + s), sh_ad ys x3 (8 * g) (8 * g + s), sz, sx, sy, sc, bk, nx, lr, co, re, st, sr, he, av, ow, ms)) :
    ∀ (m k n : Nat), k + m = s → m < n → wX_shift_98 post (nI g) x2 x3 (nI (8 * g)) ds cn ac cu n (nI (8 * g + k)) dX dY dP (sh_ad xs x2 (8 * g) (8 * g + k)) (sh_ad ys x3 (8 * g) (8 * g + k)) sz sx sy sc bk nx lr co re st sr he av ow ms := by
  intro m
  induction m with
  | zero =>
    intro k n hk hn
    obtain ⟨n, rfl⟩ : ∃ n', n = n' + 1 := ⟨n - 1, by omega⟩
    rw [wX_shift_98]
    dsimp only
    rw [nI_clamp (show g < 2 ^ 31 by omega), hz, nI_add, show k = s by omega]
    exact ⟨vp_in_nI hg (by omega), br_t (nI_le (by omega) (by omega)) h⟩
  | succ m ih =>
    intro k n hk hn
    obtain ⟨n, rfl⟩ : ∃ n', n = n' + 1 := ⟨n - 1, by omega⟩
    rw [wX_shift_98]
    dsimp only
    rw [nI_clamp (show g < 2 ^ 31 by omega), nI_clamp (show 8 * g + k < 2 ^ 31 by omega), hz, nI_add]
    have i1 : vp_in (nI (8 * g + k)) 48 := vp_in_nI (by omega) (by omega)
    exact ⟨vp_in_nI hg (by omega), br_f (nI_ge (by omega) (by omega)) ⟨i1, i1, nm_r (sh_ad_s (by omega)) ⟨i1, i1, nm_r (sh_ad_s (by omega)) (nm_r (nI_1 (8 * g + k)) (ih (k + 1) n (by omega) (by omega)))⟩⟩⟩
theorem xs_47 {post : Int32 → SX → Prop} (hg : g < 6) (hs : s ≤ 8) (hz : sz g = nI s)
    (hok : (∀ k, k < s → sh_on (xs (8 * g + k) + x2) (ys (8 * g + k) + x3)) → ∃ n, wX_shift_98 post (nI g) x2 x3 (nI (8 * g)) ds cn ac cu n (nI (8 * g)) dX dY dP xs ys sz sx sy sc bk nx lr co re st sr he av ow ms)
    (hbad : ¬ (∀ k, k < s → sh_on (xs (8 * g + k) + x2) (ys (8 * g + k) + x3)) → post (-2) (ds, cn, ac, cu, dX, dY, dP, xs, ys, sz, sx, sy, sc, bk, nx, lr, co, re, st, sr, he, av, ow, ms)) :
    ∀ (m k n : Nat), k + m = s → m < n → (∀ t, t < k → sh_on (xs (8 * g + t) + x2) (ys (8 * g + t) + x3)) → wX_shift_47 post (nI g) x2 x3 (nI (8 * g)) ds cn ac cu dX dY dP xs ys sz sx sy sc bk nx lr co re st sr he av ow ms n (nI (8 * g + k)) := by
  intro m
  induction m with
  | zero =>
    intro k n hk hn ht
    obtain ⟨n, rfl⟩ : ∃ n', n = n' + 1 := ⟨n - 1, by omega⟩
    rw [wX_shift_47]
    dsimp only
    rw [nI_clamp (show g < 2 ^ 31 by omega), hz, nI_add]
    exact ⟨vp_in_nI hg (by omega), br_t (nI_le (by omega) (by omega)) (hok (fun t h => ht t (by omega)))⟩
  | succ m ih =>
    intro k n hk hn ht
    obtain ⟨n, rfl⟩ : ∃ n', n = n' + 1 := ⟨n - 1, by omega⟩
    rw [wX_shift_47]
    dsimp only
    rw [nI_clamp (show g < 2 ^ 31 by omega), nI_clamp (show 8 * g + k < 2 ^ 31 by omega), hz, nI_add]
    have i1 : vp_in (nI (8 * g + k)) 48 := vp_in_nI (by omega) (by omega)
    refine ⟨vp_in_nI hg (by omega), br_f (nI_ge (by omega) (by omega)) ⟨i1, i1, xs_onGrid (fun c => br_f (by decide) (nm_r (nI_1 (8 * g + k)) (ih (k + 1) n (by omega) (by omega) (fun t h => ?_)))) (fun c => br_t rfl (hbad (fun z => c (z k (by omega)))))⟩⟩
    by_cases e : t = k
    · rw [e]; exact c
    · exact ht t (by omega)
theorem ys_126 {post : Int32 → SY → Prop} (hg : g < 6) (hs : s ≤ 8) (hz : sd g = nI s)
    (h : post 0 (pt, dA, dB, dC, dn, sh_ad yx x2 (8 * g) (8 * g + s), sh_ad yy x3 (8 * g) (8 * g + s), sd, pa, pb, pc)) :
    ∀ (m k n : Nat), k + m = s → m < n → wY_shift_126 post (nI g) x2 x3 pt dA dB dC dn n (nI k) (sh_ad yx x2 (8 * g) (8 * g + k)) (sh_ad yy x3 (8 * g) (8 * g + k)) sd pa pb pc := by
  intro m
  induction m with
  | zero =>
    intro k n hk hn
    obtain ⟨n, rfl⟩ : ∃ n', n = n' + 1 := ⟨n - 1, by omega⟩
    rw [wY_shift_126]
    dsimp only
    rw [nI_clamp (show g < 2 ^ 31 by omega), hz, show k = s by omega]
    exact ⟨vp_in_nI hg (by omega), br_t (nI_le (by omega) (by omega)) h⟩
  | succ m ih =>
    intro k n hk hn
    obtain ⟨n, rfl⟩ : ∃ n', n = n' + 1 := ⟨n - 1, by omega⟩
    rw [wY_shift_126]
    dsimp only
    rw [sh_8k, nI_clamp (show g < 2 ^ 31 by omega), nI_clamp (show 8 * g + k < 2 ^ 31 by omega), hz]
    have i1 : vp_in (nI (8 * g + k)) 56 := vp_in_nI (by omega) (by omega)
    exact ⟨vp_in_nI hg (by omega), br_f (nI_ge (by omega) (by omega)) (br_f (nI_ge (b := 8) (by omega) (by omega)) ⟨i1, i1, nm_r (sh_ad_s (by omega)) ⟨i1, i1, nm_r (sh_ad_s (by omega)) (nm_r (nI_1 k) (ih (k + 1) n (by omega) (by omega)))⟩⟩)⟩
theorem ys_40 {post : Int32 → SY → Prop} (hg : g < 6) (hs : s ≤ 8) (hz : sd g = nI s)
    (hok : (∀ k, k < s → sh_on (yx (8 * g + k) + x2) (yy (8 * g + k) + x3)) → ∃ n, wY_shift_126 post (nI g) x2 x3 pt dA dB dC dn n 0 yx yy sd pa pb pc)
    (hbad : ¬ (∀ k, k < s → sh_on (yx (8 * g + k) + x2) (yy (8 * g + k) + x3)) → post (-2) (pt, dA, dB, dC, dn, yx, yy, sd, pa, pb, pc)) :
    ∀ (m k n : Nat), k + m = s → m < n → (∀ t, t < k → sh_on (yx (8 * g + t) + x2) (yy (8 * g + t) + x3)) → wY_shift_40 post (nI g) x2 x3 pt dA dB dC dn yx yy sd pa pb pc n (nI k) := by
  intro m
  induction m with
  | zero =>
    intro k n hk hn ht
    obtain ⟨n, rfl⟩ : ∃ n', n = n' + 1 := ⟨n - 1, by omega⟩
    rw [wY_shift_40]
    dsimp only
    rw [nI_clamp (show g < 2 ^ 31 by omega), hz]
    exact ⟨vp_in_nI hg (by omega), br_t (nI_le (by omega) (by omega)) (hok (fun t h => ht t (by omega)))⟩
  | succ m ih =>
    intro k n hk hn ht
    obtain ⟨n, rfl⟩ : ∃ n', n = n' + 1 := ⟨n - 1, by omega⟩
    rw [wY_shift_40]
    dsimp only
    rw [sh_8k, nI_clamp (show g < 2 ^ 31 by omega), nI_clamp (show 8 * g + k < 2 ^ 31 by omega), hz]
    have i1 : vp_in (nI (8 * g + k)) 56 := vp_in_nI (by omega) (by omega)
    have bad : ¬ sh_on (yx (8 * g + k) + x2) (yy (8 * g + k) + x3) → post (-2) (pt, dA, dB, dC, dn, yx, yy, sd, pa, pb, pc) := fun c => hbad (fun z => c (z k (by omega)))
    refine ⟨vp_in_nI hg (by omega), br_f (nI_ge (by omega) (by omega)) (br_f (nI_ge (b := 8) (by omega) (by omega)) ⟨i1, nm_e ⟨i1, nm_e ?_⟩⟩)⟩
    refine br_c (fun c => bad (fun z => z.1 c)) (fun c1 => br_c (fun c => bad (fun z => z.2.1 c)) (fun c2 => br_c (fun c => bad (fun z => z.2.2.1 c)) (fun c3 => br_c (fun c4 => nm_r (nI_1 k) (ih (k + 1) n (by omega) (by omega) (fun t h => ?_))) (fun c => bad (fun z => c (Int32.not_lt.mp z.2.2.2))))))
    by_cases e : t = k
    · rw [e]; exact ⟨c1, c2, c3, Int32.not_lt.mpr c4⟩
    · exact ht t (by omega)
end
theorem i_vc_shift {k : Nat} {u : SX} {v : SY} (I : i_Rel k u v) (hk : k + 4 ≤ 2048) (v1 : Int32) (v2 : Int32) (v3 : Int32) : wpX_shift (fun r u' => wpY_shift (fun r' v' => r' = r ∧ i_Rel (k + 4) u' v') v v1 v2 v3) u v1 v2 v3 := by
  refine zz_el (P := fun u v => wpX_shift (fun r u' => wpY_shift (fun r' v' => r' = r ∧ i_Rel (k + 4) u' v') v v1 v2 v3) u v1 v2 v3) ?_ I
  intro D C ac cu dX dY dP xs ys sz sx sy sc bk nx lr co re st sr he av ow ms yx yy R G
  unfold wpX_shift wpY_shift
  dsimp only
  have hC := R.2.1
  refine xm_isDrawn hC (fun c => br_t rfl (ym_missing hC (fun _ => br_f (by decide) ⟨rfl, zz_in R G⟩) (fun d => absurd d c))) (fun c => br_f (by decide) ?_)
  by_cases c1 : v2 < (-24)
  · exact br_t c1 (ym_missing hC (fun d => absurd c d) (fun _ => br_t rfl (br_t c1 ⟨rfl, zz_in R G⟩)))
  by_cases c2 : 24 < v2
  · exact br_f c1 (br_t c2 (ym_missing hC (fun d => absurd c d) (fun _ => br_t rfl (br_f c1 (br_t c2 ⟨rfl, zz_in R G⟩)))))
  by_cases c3 : v3 < (-12)
  · exact br_f c1 (br_f c2 (br_t c3 (ym_missing hC (fun d => absurd c d) (fun _ => br_t rfl (br_f c1 (br_f c2 (br_t c3 ⟨rfl, zz_in R G⟩)))))))
  by_cases c4 : v3 ≤ 12
  · obtain ⟨g, hg, rfl⟩ := c
    obtain ⟨R1, R2, R3, R4, R5⟩ := R
    obtain ⟨⟨s, s1, s2, s3⟩, s4⟩ := R5 g hg
    have hxy : (∀ t, t < s → sh_on (yx (8 * g + t) + v2) (yy (8 * g + t) + v3)) ↔ (∀ t, t < s → sh_on (xs (8 * g + t) + v2) (ys (8 * g + t) + v3)) := by
      constructor
      · intro z t ht
        have := z t ht
        rw [(s3 t ht).2.2.1, (s3 t ht).2.2.2] at this
        exact this
      · intro z t ht
        rw [(s3 t ht).2.2.1, (s3 t ht).2.2.2]
        exact z t ht
    refine br_f c1 (br_f c2 (br_f c3 (br_t c4 (nm_r (sh_8n g) ⟨s + 1, ?_⟩))))
    refine xs_47 (g := g) (s := s) (by omega) s1 s2 (fun all => ⟨s + 1, ?_⟩) (fun nall => ?_) s 0 (s + 1) (by omega) (by omega) (fun t ht => absurd ht (by omega))
    · have go := xs_98 (ds := nI D) (cn := nI C) (ac := ac) (cu := cu) (dX := dX) (dY := dY) (dP := dP) (xs := xs) (ys := ys) (sz := sz) (sx := sx) (sy := sy) (sc := sc) (bk := bk) (nx := nx) (lr := lr) (co := co) (re := re) (st := st) (sr := sr) (he := he) (av := av) (ow := ow) (ms := ms) (g := g) (s := s) (x2 := v2) (x3 := v3)
        (post := fun r u' => wpY_shift (fun r' v' => r' = r ∧ i_Rel (k + 4) u' v') (nI D, dP 0, dP 1, dP 2, nI C, yx, yy, sz, sx, sy, sc) (nI g) v2 v3) (by omega) s1 s2 ?_ s 0 (s + 1) (by omega) (by omega)
      · simp only [Nat.add_zero, sh_ad_0] at go
        exact go
      · unfold wpY_shift
        dsimp only
        refine ym_missing hC (fun d => absurd ⟨g, hg, rfl⟩ d) (fun _ => br_t rfl (br_f c1 (br_f c2 (br_f c3 (br_t c4 ⟨s + 1, ?_⟩)))))
        refine ys_40 (g := g) (s := s) (by omega) s1 s2 (fun _ => ⟨s + 1, ?_⟩) (fun nall => absurd (hxy.mpr all) nall) s 0 (s + 1) (by omega) (by omega) (fun t ht => absurd ht (by omega))
        have goY := ys_126 (pt := nI D) (dA := dP 0) (dB := dP 1) (dC := dP 2) (dn := nI C) (yx := yx) (yy := yy) (sd := sz) (pa := sx) (pb := sy) (pc := sc) (g := g) (s := s) (x2 := v2) (x3 := v3)
          (post := fun r' v' => r' = 0 ∧ i_Rel (k + 4) (nI D, nI C, ac, 0, dX, dY, dP, sh_ad xs v2 (8 * g) (8 * g + s), sh_ad ys v3 (8 * g) (8 * g + s), sz, sx, sy, sc, bk, nx, lr, co, re, st, sr, he, av, ow, ms) v') (by omega) s1 s2 ⟨rfl, ?_⟩ s 0 (s + 1) (by omega) (by omega)
        · simp only [Nat.add_zero, sh_ad_0] at goY
          exact goY
        · refine zz_in ⟨R1, R2, R3, fun q hq => ?_, fun p hp => ?_⟩ (fun z => absurd rfl z)
          · rw [sh_ad_out (by omega), sh_ad_out (by omega)]
            exact R4 q hq
          · by_cases e : p = g
            · subst e
              refine ⟨⟨s, s1, s2, fun t ht => ?_⟩, s4⟩
              obtain ⟨o1, o2, o3, o4⟩ := all t ht
              rw [sh_ad_in (by omega) (by omega), sh_ad_in (by omega) (by omega), sh_ad_in (by omega) (by omega), sh_ad_in (by omega) (by omega), (s3 t ht).2.2.1, (s3 t ht).2.2.2]
              exact ⟨sh_In_of (M := 24) (by decide) o1 o2, sh_In_of (M := 12) (by decide) o3 o4, rfl, rfl⟩
            · exact sh_Pg_move (R5 p hp) rfl rfl rfl rfl (fun t ht => ⟨sh_ad_out (by omega), sh_ad_out (by omega), sh_ad_out (by omega), sh_ad_out (by omega)⟩)
    · refine ym_missing hC (fun d => absurd ⟨g, hg, rfl⟩ d) (fun _ => br_t rfl (br_f c1 (br_f c2 (br_f c3 (br_t c4 ⟨s + 1, ?_⟩)))))
      exact ys_40 (g := g) (s := s) (by omega) s1 s2 (fun all => absurd (hxy.mp all) nall) (fun _ => ⟨rfl, zz_in ⟨R1, R2, R3, R4, R5⟩ G⟩) s 0 (s + 1) (by omega) (by omega) (fun t ht => absurd ht (by omega))
  · exact br_f c1 (br_f c2 (br_f c3 (br_f c4 (ym_missing hC (fun d => absurd c d) (fun _ => br_t rfl (br_f c1 (br_f c2 (br_f c3 (br_f c4 ⟨rfl, zz_in R G⟩)))))))))
end
section
/-! the questions of one pixel and of one row -/
def sh_px (v : Int32) (N : Nat) : Prop := ∃ i, i < N ∧ v = nI i
theorem sh_px_no {v : Int32} {N : Nat} (h : v < 0) (hN : N < 2 ^ 31) : ¬ sh_px v N := by
  rintro ⟨i, hi, rfl⟩
  exact nI_pos (by omega) h
theorem sh_px_hi {v : Int32} {N : Nat} (h : nI N ≤ v) (hN : N < 2 ^ 31) : ¬ sh_px v N := by
  rintro ⟨i, hi, rfl⟩
  exact nI_ge hi hN h
theorem sh_px_of {v : Int32} {N : Nat} (h0 : ¬ v < 0) (h : ¬ nI N ≤ v) (hN : N < 2 ^ 31) : sh_px v N := by
  obtain ⟨j, hj, rfl⟩ := nI_of h0
  refine ⟨j, ?_, rfl⟩
  rw [nI_leI hN hj] at h
  omega
theorem sh_px_le {v : Int32} {N : Nat} (h : ¬ v ≤ nI N) (hN : N + 1 < 2 ^ 31) : nI (N + 1) ≤ v := by
  rw [Int32.le_iff_toInt_le, nI_toInt (by omega)] at *
  omega
theorem sh_px_nle {v : Int32} {N : Nat} (h : v ≤ nI N) (hN : N + 1 < 2 ^ 31) : ¬ nI (N + 1) ≤ v := by
  rw [Int32.le_iff_toInt_le, nI_toInt (by omega)] at *
  omega
theorem xq_isPixel {post : Int32 → Prop} {v1 v2 : Int32} (h0 : ¬ (sh_px v1 24 ∧ sh_px v2 12) → post 0) (h1 : sh_px v1 24 → sh_px v2 12 → post 1) : wpX_isPixel post v1 v2 := by
  unfold wpX_isPixel
  exact br_c (fun c => h0 (fun z => sh_px_no c (by omega) z.1)) (fun c1 => br_c (fun c => h0 (fun z => sh_px_hi (N := 24) c (by omega) z.1)) (fun c2 => br_c (fun c => h0 (fun z => sh_px_no c (by omega) z.2)) (fun c3 => br_c (fun c => h0 (fun z => sh_px_hi (N := 12) c (by omega) z.2)) (fun c4 => h1 (sh_px_of c1 c2 (by omega)) (sh_px_of c3 c4 (by omega))))))
theorem xq_row {v : Int32} {A B : Prop} (h0 : ¬ sh_px v 12 → A) (h1 : sh_px v 12 → B) : (v < 0 → A) ∧ (¬ v < 0 → ((v < 12 → B) ∧ (¬ v < 12 → A))) :=
  br_c (fun c => h0 (sh_px_no c (by omega))) (fun c1 => br_c (fun c => h1 (sh_px_of (N := 12) c1 (Int32.not_le.mpr c) (by omega))) (fun c => h0 (sh_px_hi (N := 12) (Int32.not_lt.mp c) (by omega))))
def sh_Tv (cnt : Nat) (xs ys sz sx sy sc : Nat → Int32) (i j : Nat) : Int32 := sh_en (sh_ow cnt xs ys sz sx sy sc i j)
theorem sh_Tv_lt {cnt : Nat} {xs ys sz sx sy sc : Nat → Int32} {i j : Nat} (hc : cnt ≤ 6) : sh_Tv cnt xs ys sz sx sy sc i j < 0 ↔ sh_Tv cnt xs ys sz sx sy sc i j = -2 := by
  unfold sh_Tv
  rw [sh_en_0 (n := 6) (fun p h => by have := (sh_fr_is h).1; omega) (by omega), sh_en_n (n := 6) (fun p h => by have := (sh_fr_is h).1; omega) (by omega)]
theorem sh_tg_Tv {cnt : Nat} {xs ys sz sx sy sc : Nat → Int32} {i j : Nat} (hi : i < 24) : sh_tg cnt xs ys sz sx sy sc (24 * j + i) = sh_Tv cnt xs ys sz sx sy sc i j := sh_tg_at hi
/-- a span begins -/
def sh_bg (T : Nat → Nat → Int32) (j i : Nat) : Bool := decide (i = 0) || !decide (T i j = T (i - 1) j)
/-- the start of the span that is left v behind those passed -/
def sh_ss (f : Nat → Bool) (v : Int32) : Nat → Nat → Nat → Int32
  | 0, _, _ => -2
  | m + 1, i, c => if f i = true then (if nI c = v then nI i else sh_ss f v m (i + 1) (c + 1)) else sh_ss f v m (i + 1) c
theorem sh_ss_in (f : Nat → Bool) (v : Int32) : ∀ (m i c : Nat), i + m = 24 → sh_ss f v m i c = -2 ∨ sh_px (sh_ss f v m i c) 24 := by
  intro m
  induction m with
  | zero => intro i c _; exact Or.inl rfl
  | succ m ih =>
    intro i c hi
    rw [sh_ss]
    split
    · split
      · exact Or.inr ⟨i, by omega, rfl⟩
      · exact ih (i + 1) (c + 1) (by omega)
    · exact ih (i + 1) c (by omega)
section
variable {ds cn ac cu : Int32} {dX dY dP xs ys sz sx sy sc bk nx lr co re st sr he av ow ms : Nat → Int32} {pt dA dB dC dn : Int32} {yx yy sd pa pb pc : Nat → Int32} {C D : Nat}
theorem yq_badC {post : Int32 → Prop} {v : Int32} (h0 : sh_px v 24 → post 0) (h1 : ¬ sh_px v 24 → post 1) : wpY_badColumn post (pt, dA, dB, dC, dn, yx, yy, sd, pa, pb, pc) v := by
  unfold wpY_badColumn
  dsimp only
  exact br_c (fun c => h1 (sh_px_no c (by omega))) (fun c1 => br_c (fun c => h0 (sh_px_of c1 (sh_px_nle (N := 23) c (by omega)) (by omega))) (fun c => h1 (sh_px_hi (sh_px_le (N := 23) c (by omega)) (by omega))))
theorem yq_badR {post : Int32 → Prop} {v : Int32} (h0 : sh_px v 12 → post 0) (h1 : ¬ sh_px v 12 → post 1) : wpY_badRow post (pt, dA, dB, dC, dn, yx, yy, sd, pa, pb, pc) v := by
  unfold wpY_badRow
  dsimp only
  exact br_c (fun c => h1 (sh_px_no c (by omega))) (fun c1 => br_c (fun c => h0 (sh_px_of c1 (sh_px_nle (N := 11) c (by omega)) (by omega))) (fun c => h1 (sh_px_hi (sh_px_le (N := 11) c (by omega)) (by omega))))
theorem zz_Tv (R : sh_Rf D C dX dY dP xs ys sz sx sy sc yx yy) : sh_Tv C yx yy sz sx sy sc = sh_Tv C xs ys sz sx sy sc := by
  funext i j
  exact congrArg sh_en (zz_ow R)
theorem zz_rf {post : SX → Prop} {k : Nat} (R : sh_Rf D C dX dY dP xs ys sz sx sy sc yx yy) (G : ¬ cu = 0 → sh_Gd C xs ys sz sx sy sc ow ms)
    (h : ∀ (ac cu : Int32) (bk nx lr co re st sr he av ow ms : Nat → Int32), sh_Gd C xs ys sz sx sy sc ow ms →
      i_Rel k (nI D, nI C, ac, cu, dX, dY, dP, xs, ys, sz, sx, sy, sc, bk, nx, lr, co, re, st, sr, he, av, ow, ms) (nI D, dP 0, dP 1, dP 2, nI C, yx, yy, sz, sx, sy, sc) → post (nI D, nI C, ac, cu, dX, dY, dP, xs, ys, sz, sx, sy, sc, bk, nx, lr, co, re, st, sr, he, av, ow, ms)) : wpX_refresh post (nI D, nI C, ac, cu, dX, dY, dP, xs, ys, sz, sx, sy, sc, bk, nx, lr, co, re, st, sr, he, av, ow, ms) :=
  xe_refresh (zz_ok R) (zz_pl R) G (fun ac cu bk nx lr co re st sr he av ow ms g => h ac cu bk nx lr co re st sr he av ow ms g (zz_in R (fun _ => g)))
theorem xq_begins {post : Int32 → Prop} {i j : Nat} (g : sh_Gd C xs ys sz sx sy sc ow ms) (hi : i < 24) (hj : j < 12) (h : post (sh_b (sh_bg (sh_Tv C xs ys sz sx sy sc) j i))) : wpX_begins post (ds, cn, ac, cu, dX, dY, dP, xs, ys, sz, sx, sy, sc, bk, nx, lr, co, re, st, sr, he, av, ow, ms) (nI i) (nI j) := by
  unfold wpX_begins
  dsimp only
  by_cases c : i = 0
  · subst c
    exact br_t rfl h
  · have e1 : nI (24 * j + i) - 1 = nI (24 * j + (i - 1)) := by
      rw [show 24 * j + i = (24 * j + (i - 1)) + 1 by omega, nI_pred]
    rw [sh_24k, e1, nI_clamp (show 24 * j + i < 2 ^ 31 by omega), nI_clamp (show 24 * j + (i - 1) < 2 ^ 31 by omega), g.1 _ (by omega), g.1 _ (by omega), sh_tg_Tv hi, sh_tg_Tv (by omega)]
    refine br_f (nI_ne0 (by omega) (by omega)) ⟨vp_in_nI (by omega) (by omega), vp_in_nI (by omega) (by omega), ?_⟩
    unfold sh_bg at h
    rw [decide_eq_false c] at h
    by_cases d : sh_Tv C xs ys sz sx sy sc i j = sh_Tv C xs ys sz sx sy sc (i - 1) j
    · rw [decide_eq_true d] at h
      exact br_t d h
    · rw [decide_eq_false d] at h
      exact br_f d h
theorem yq_begins {post : Int32 → Prop} {i j : Nat} (hc : C ≤ 6) (hs : ∀ p, p < C → sd p = nI (sh_cl sd p) ∧ sh_cl sd p ≤ 8) (hi : i < 24) (h : post (sh_b (sh_bg (sh_Tv C yx yy sd pa pb pc) j i))) :
    wpY_begins post (pt, dA, dB, dC, nI C, yx, yy, sd, pa, pb, pc) (nI i) (nI j) := by
  unfold wpY_begins
  dsimp only
  by_cases c : i = 0
  · subst c
    exact br_t rfl h
  · have e1 : nI i - 1 = nI (i - 1) := pk_sub (a := i) (b := 1) (by omega)
    rw [e1]
    refine br_f (nI_ne0 (by omega) (by omega)) (ya_own hc hs (ya_own hc hs ?_))
    unfold sh_bg at h
    rw [decide_eq_false c] at h
    by_cases d : sh_Tv C yx yy sd pa pb pc i j = sh_Tv C yx yy sd pa pb pc (i - 1) j
    · rw [decide_eq_true d] at h
      exact br_t d h
    · rw [decide_eq_false d] at h
      exact br_f d h
theorem xq_spans {post : Int32 → SX → Prop} {j : Nat} (g : sh_Gd C xs ys sz sx sy sc ow ms) (hj : j < 12) (h : post (nI (sh_cn (sh_bg (sh_Tv C xs ys sz sx sy sc) j) 24)) (ds, cn, ac, cu, dX, dY, dP, xs, ys, sz, sx, sy, sc, bk, nx, lr, co, re, st, sr, he, av, ow, ms)) :
    ∀ (m i n : Nat), i + m = 24 → m < n → wX_spans_20 post (nI j) ds cn ac cu dX dY dP xs ys sz sx sy sc bk nx lr co re st sr he av ow ms n (nI (sh_cn (sh_bg (sh_Tv C xs ys sz sx sy sc) j) i)) (nI i) := by
  intro m
  induction m with
  | zero =>
    intro i n hi hn
    obtain ⟨n, rfl⟩ : ∃ n', n = n' + 1 := ⟨n - 1, by omega⟩
    rw [wX_spans_20]
    rw [show i = 24 by omega]
    exact br_t (nI_le (a := 24) (b := 24) (by omega) (by omega)) h
  | succ m ih =>
    intro i n hi hn
    obtain ⟨n, rfl⟩ : ∃ n', n = n' + 1 := ⟨n - 1, by omega⟩
    rw [wX_spans_20]
    have k := ih (i + 1) n (by omega) (by omega)
    refine br_f (nI_ge (b := 24) (by omega) (by omega)) (xq_begins g (by omega) hj ?_)
    cases c : sh_bg (sh_Tv C xs ys sz sx sy sc) j i
    · rw [sh_cn_f c] at k
      exact br_t rfl (nm_r (nI_1 i) k)
    · rw [sh_cn_t c] at k
      exact br_f (by decide) (nm_r (nI_1 _) (nm_r (nI_1 i) k))
theorem yq_spans {post : Int32 → Prop} {j : Nat} (hc : C ≤ 6) (hs : ∀ p, p < C → sd p = nI (sh_cl sd p) ∧ sh_cl sd p ≤ 8) (h : post (nI (sh_cn (sh_bg (sh_Tv C yx yy sd pa pb pc) j) 24))) :
    ∀ (m i n : Nat), i + m = 24 → m < n → wY_spans_14 post (nI j) pt dA dB dC (nI C) yx yy sd pa pb pc n (nI (sh_cn (sh_bg (sh_Tv C yx yy sd pa pb pc) j) i)) (nI i) := by
  intro m
  induction m with
  | zero =>
    intro i n hi hn
    obtain ⟨n, rfl⟩ : ∃ n', n = n' + 1 := ⟨n - 1, by omega⟩
    rw [wY_spans_14]
    rw [show i = 24 by omega]
    exact br_t (nI_le (a := 24) (b := 24) (by omega) (by omega)) h
  | succ m ih =>
    intro i n hi hn
    obtain ⟨n, rfl⟩ : ∃ n', n = n' + 1 := ⟨n - 1, by omega⟩
    rw [wY_spans_14]
    have k := ih (i + 1) n (by omega) (by omega)
    refine br_f (nI_ge (b := 24) (by omega) (by omega)) (yq_begins hc hs (by omega) ?_)
    cases c : sh_bg (sh_Tv C yx yy sd pa pb pc) j i
    · rw [sh_cn_f c] at k
      exact br_t rfl (nm_r (nI_1 i) k)
    · rw [sh_cn_t c] at k
      exact br_f (by decide) (nm_r (nI_1 _) (nm_r (nI_1 i) k))
theorem sh_v0 {v : Int32} {c : Nat} : v - nI c = 0 ↔ nI c = v := by
  constructor
  · intro h
    have e := Int32.sub_add_cancel v (nI c)
    rw [h, Int32.zero_add] at e
    exact e
  · intro h
    rw [h, Int32.sub_self]
theorem sh_v1 {v : Int32} {c : Nat} : v - nI c + (-1) = v - nI (c + 1) := by
  rw [← nI_1]
  grind
theorem xq_21 {post : Int32 → SX → Prop} {v : Int32} {j : Nat} (g : sh_Gd C xs ys sz sx sy sc ow ms) (hj : j < 12) :
    ∀ (m i c n : Nat), i + m = 24 → m < n → post (sh_ss (sh_bg (sh_Tv C xs ys sz sx sy sc) j) v m i c) (ds, cn, ac, cu, dX, dY, dP, xs, ys, sz, sx, sy, sc, bk, nx, lr, co, re, st, sr, he, av, ow, ms) → wX_spanStart_21 post (nI j) ds cn ac cu dX dY dP xs ys sz sx sy sc bk nx lr co re st sr he av ow ms n (v - nI c) (nI i) := by
  intro m
  induction m with
  | zero =>
    intro i c n hi hn h
    obtain ⟨n, rfl⟩ : ∃ n', n = n' + 1 := ⟨n - 1, by omega⟩
    rw [wX_spanStart_21]
    exact br_t (nI_le (a := 24) (by omega) (by omega)) h
  | succ m ih =>
    intro i c n hi hn h
    obtain ⟨n, rfl⟩ : ∃ n', n = n' + 1 := ⟨n - 1, by omega⟩
    rw [wX_spanStart_21]
    rw [sh_ss] at h
    refine br_f (nI_ge (b := 24) (by omega) (by omega)) (xq_begins g (by omega) hj ?_)
    cases d : sh_bg (sh_Tv C xs ys sz sx sy sc) j i
    · rw [if_neg (by rw [d]; exact Bool.false_ne_true)] at h
      exact br_t rfl (nm_r (nI_1 i) (ih (i + 1) c n (by omega) (by omega) h))
    · rw [if_pos d] at h
      refine br_f (by decide) ?_
      by_cases e : nI c = v
      · rw [if_pos e] at h
        exact br_t (sh_v0.mpr e) h
      · rw [if_neg e] at h
        exact br_f (fun z => e (sh_v0.mp z)) (nm_r sh_v1 (nm_r (nI_1 i) (ih (i + 1) (c + 1) n (by omega) (by omega) h)))
theorem yq_5 {post : Int32 → Prop} {v : Int32} {j : Nat} (hc : C ≤ 6) (hs : ∀ p, p < C → sd p = nI (sh_cl sd p) ∧ sh_cl sd p ≤ 8) :
    ∀ (m i c n : Nat), i + m = 24 → m < n → post (sh_ss (sh_bg (sh_Tv C yx yy sd pa pb pc) j) v m i c) → wY_startOf_5 post (nI j) v pt dA dB dC (nI C) yx yy sd pa pb pc n (nI c) (nI i) := by
  intro m
  induction m with
  | zero =>
    intro i c n hi hn h
    obtain ⟨n, rfl⟩ : ∃ n', n = n' + 1 := ⟨n - 1, by omega⟩
    rw [wY_startOf_5]
    exact br_t (nI_le (a := 24) (by omega) (by omega)) h
  | succ m ih =>
    intro i c n hi hn h
    obtain ⟨n, rfl⟩ : ∃ n', n = n' + 1 := ⟨n - 1, by omega⟩
    rw [wY_startOf_5]
    rw [sh_ss] at h
    refine br_f (nI_ge (b := 24) (by omega) (by omega)) (yq_begins hc hs (by omega) ?_)
    cases d : sh_bg (sh_Tv C yx yy sd pa pb pc) j i
    · rw [if_neg (by rw [d]; exact Bool.false_ne_true)] at h
      exact br_t rfl (nm_r (nI_1 i) (ih (i + 1) c n (by omega) (by omega) h))
    · rw [if_pos d] at h
      refine br_f (by decide) ?_
      by_cases e : nI c = v
      · rw [if_pos e] at h
        exact br_t e h
      · rw [if_neg e] at h
        exact br_f e (nm_r (nI_1 c) (nm_r (nI_1 i) (ih (i + 1) (c + 1) n (by omega) (by omega) h)))
theorem xq_spanStart {post : Int32 → SX → Prop} {k : Nat} {v1 v2 : Int32} (R : sh_Rf D C dX dY dP xs ys sz sx sy sc yx yy) (G : ¬ cu = 0 → sh_Gd C xs ys sz sx sy sc ow ms)
    (h0 : ¬ sh_px v1 12 → post (-1) (nI D, nI C, ac, cu, dX, dY, dP, xs, ys, sz, sx, sy, sc, bk, nx, lr, co, re, st, sr, he, av, ow, ms))
    (h1 : ∀ j, j < 12 → v1 = nI j → ∀ (ac cu : Int32) (bk nx lr co re st sr he av ow ms : Nat → Int32), sh_Gd C xs ys sz sx sy sc ow ms →
      i_Rel k (nI D, nI C, ac, cu, dX, dY, dP, xs, ys, sz, sx, sy, sc, bk, nx, lr, co, re, st, sr, he, av, ow, ms) (nI D, dP 0, dP 1, dP 2, nI C, yx, yy, sz, sx, sy, sc) → post (sh_ss (sh_bg (sh_Tv C xs ys sz sx sy sc) j) v2 24 0 0) (nI D, nI C, ac, cu, dX, dY, dP, xs, ys, sz, sx, sy, sc, bk, nx, lr, co, re, st, sr, he, av, ow, ms)) :
    wpX_spanStart post (nI D, nI C, ac, cu, dX, dY, dP, xs, ys, sz, sx, sy, sc, bk, nx, lr, co, re, st, sr, he, av, ow, ms) v1 v2 := by
  unfold wpX_spanStart
  dsimp only
  refine xq_row h0 (fun c => ?_)
  obtain ⟨j, hj, rfl⟩ := c
  refine zz_rf (k := k) R G (fun ac cu bk nx lr co re st sr he av ow ms g I => ⟨25, ?_⟩)
  have q := xq_21 (ds := nI D) (cn := nI C) (ac := ac) (cu := cu) (dX := dX) (dY := dY) (dP := dP) (xs := xs) (ys := ys) (sz := sz) (sx := sx) (sy := sy) (sc := sc) (bk := bk) (nx := nx) (lr := lr) (co := co) (re := re) (st := st) (sr := sr) (he := he) (av := av) (ow := ow) (ms := ms) (v := v2) g hj 24 0 0 25 (by omega) (by omega) (h1 j hj rfl ac cu bk nx lr co re st sr he av ow ms g I)
  rw [show v2 - nI 0 = v2 by rw [nI_0, Int32.sub_zero]] at q
  exact q
end
end
section
/-! the owed statements on a pixel and on a row -/
theorem i_vc_owner {k : Nat} {u : SX} {v : SY} (I : i_Rel k u v) (hk : k + 4 ≤ 2048) (v1 : Int32) (v2 : Int32) : wpX_owner (fun r u' => wpY_owner (fun r' => r' = r ∧ i_Rel (k + 4) u' v) v v1 v2) u v1 v2 := by
  refine zz_el (P := fun u v => wpX_owner (fun r u' => wpY_owner (fun r' => r' = r ∧ i_Rel (k + 4) u' v) v v1 v2) u v1 v2) ?_ I
  intro D C ac cu dX dY dP xs ys sz sx sy sc bk nx lr co re st sr he av ow ms yx yy R G
  have hC := R.2.1
  unfold wpX_owner wpY_owner
  dsimp only
  refine xq_isPixel (fun c => br_t rfl ?_) (fun c1 c2 => br_f (by decide) ?_)
  · exact yq_badC (fun d1 => br_t rfl (yq_badR (fun d2 => absurd ⟨d1, d2⟩ c) (fun _ => br_f (by decide) ⟨rfl, zz_in R G⟩))) (fun _ => br_f (by decide) ⟨rfl, zz_in R G⟩)
  · obtain ⟨i, hi, rfl⟩ := c1
    obtain ⟨j, hj, rfl⟩ := c2
    refine zz_rf (k := k + 4) R G (fun ac cu bk nx lr co re st sr he av ow ms g J => ?_)
    dsimp only
    rw [sh_24k, nI_clamp (show 24 * j + i < 2 ^ 31 by omega)]
    refine ⟨vp_in_nI (by omega) (by omega), yq_badC (fun _ => br_t rfl (yq_badR (fun _ => br_t rfl (ya_own hC (zz_sd R) ⟨?_, J⟩)) (fun d => absurd ⟨j, hj, rfl⟩ d))) (fun d => absurd ⟨i, hi, rfl⟩ d)⟩
    rw [g.1 _ (by omega), sh_tg_at hi, zz_ow R]
theorem i_vc_depthAt {k : Nat} {u : SX} {v : SY} (I : i_Rel k u v) (hk : k + 4 ≤ 2048) (v1 : Int32) (v2 : Int32) : wpX_depthAt (fun r u' => wpY_depthAt (fun r' => r' = r ∧ i_Rel (k + 4) u' v) v v1 v2) u v1 v2 := by
  refine zz_el (P := fun u v => wpX_depthAt (fun r u' => wpY_depthAt (fun r' => r' = r ∧ i_Rel (k + 4) u' v) v v1 v2) u v1 v2) ?_ I
  intro D C ac cu dX dY dP xs ys sz sx sy sc bk nx lr co re st sr he av ow ms yx yy R G
  have hC := R.2.1
  unfold wpX_depthAt wpY_depthAt
  dsimp only
  refine xq_isPixel (fun c => br_t rfl ?_) (fun c1 c2 => br_f (by decide) ?_)
  · exact yq_badC (fun d1 => br_t rfl (yq_badR (fun d2 => absurd ⟨d1, d2⟩ c) (fun _ => br_f (by decide) ⟨rfl, zz_in R G⟩))) (fun _ => br_f (by decide) ⟨rfl, zz_in R G⟩)
  · obtain ⟨i, hi, rfl⟩ := c1
    obtain ⟨j, hj, rfl⟩ := c2
    refine zz_rf (k := k + 4) R G (fun ac cu bk nx lr co re st sr he av ow ms g J => ?_)
    dsimp only
    rw [sh_24k, nI_clamp (show 24 * j + i < 2 ^ 31 by omega)]
    refine ⟨vp_in_nI (by omega) (by omega), nm_r (e' := sh_en (sh_ow C xs ys sz sx sy sc i j)) (by rw [g.1 _ (by omega), sh_tg_at hi]) ?_⟩
    cases o : sh_ow C xs ys sz sx sy sc i j with
    | none =>
      refine br_t rfl (yq_badC (fun _ => br_t rfl (yq_badR (fun _ => br_t rfl (ya_own hC (zz_sd R) ?_)) (fun d => absurd ⟨j, hj, rfl⟩ d))) (fun d => absurd ⟨i, hi, rfl⟩ d))
      rw [zz_ow R, o]
      exact br_f (by decide) ⟨rfl, J⟩
    | some p =>
      have hp := (sh_fr_is o).1
      refine br_f (fun z => ?_) (xc_depth (by omega) (yq_badC (fun _ => br_t rfl (yq_badR (fun _ => br_t rfl (ya_own hC (zz_sd R) ?_)) (fun d => absurd ⟨j, hj, rfl⟩ d))) (fun d => absurd ⟨i, hi, rfl⟩ d)))
      · have z2 := congrArg Int32.toInt (show nI p = -2 from z)
        rw [nI_toInt (by omega), show (-2 : Int32).toInt = -2 by decide] at z2
        omega
      · rw [zz_ow R, o]
        exact br_t (nI_pos' (by omega)) (ya_depth (by omega) ⟨rfl, J⟩)
theorem i_vc_covers {k : Nat} {u : SX} {v : SY} (I : i_Rel k u v) (hk : k + 4 ≤ 2048) (v1 : Int32) (v2 : Int32) (v3 : Int32) : wpX_covers (fun r u' => wpY_covers (fun r' => r' = r ∧ i_Rel (k + 4) u' v) v v1 v2 v3) u v1 v2 v3 := by
  refine zz_el (P := fun u v => wpX_covers (fun r u' => wpY_covers (fun r' => r' = r ∧ i_Rel (k + 4) u' v) v v1 v2 v3) u v1 v2 v3) ?_ I
  intro D C ac cu dX dY dP xs ys sz sx sy sc bk nx lr co re st sr he av ow ms yx yy R G
  have hC := R.2.1
  unfold wpX_covers wpY_covers
  dsimp only
  refine xm_isDrawn hC (fun c => br_t rfl (ym_missing hC (fun _ => br_f (by decide) ⟨rfl, zz_in R G⟩) (fun d => absurd d c))) (fun c => br_f (by decide) ?_)
  refine xq_isPixel (fun c0 => br_t rfl (ym_missing hC (fun d => absurd c d) (fun _ => br_t rfl ?_))) (fun c1 c2 => br_f (by decide) ?_)
  · exact yq_badC (fun d1 => br_t rfl (yq_badR (fun d2 => absurd ⟨d1, d2⟩ c0) (fun _ => br_f (by decide) ⟨rfl, zz_in R G⟩))) (fun _ => br_f (by decide) ⟨rfl, zz_in R G⟩)
  · obtain ⟨p, hp, rfl⟩ := c
    obtain ⟨i, hi, rfl⟩ := c1
    obtain ⟨j, hj, rfl⟩ := c2
    refine zz_rf (k := k + 4) R G (fun ac cu bk nx lr co re st sr he av ow ms g J => ?_)
    dsimp only
    rw [sh_24k, nI_clamp (show 24 * j + i < 2 ^ 31 by omega), sh_bit (show p < 32 by omega), g.2 _ (by omega) p hp, show (24 * j + i) % 24 = i by omega, show (24 * j + i) / 24 = j by omega]
    refine ⟨vp_in_nI (by omega) (by omega), ym_missing hC (fun d => absurd ⟨p, hp, rfl⟩ d) (fun _ => br_t rfl (yq_badC (fun _ => br_t rfl (yq_badR (fun _ => br_t rfl (ya_cov (by omega) (zz_sd R p hp).2 (zz_sd R p hp).1 ?_)) (fun d => absurd ⟨j, hj, rfl⟩ d))) (fun d => absurd ⟨i, hi, rfl⟩ d)))⟩
    rw [zz_cov R hp]
    cases sh_cov xs ys sz p i j
    · exact br_t rfl ⟨rfl, J⟩
    · exact br_f (by decide) ⟨rfl, J⟩
theorem i_vc_spans {k : Nat} {u : SX} {v : SY} (I : i_Rel k u v) (hk : k + 4 ≤ 2048) (v1 : Int32) : wpX_spans (fun r u' => wpY_spans (fun r' => r' = r ∧ i_Rel (k + 4) u' v) v v1) u v1 := by
  refine zz_el (P := fun u v => wpX_spans (fun r u' => wpY_spans (fun r' => r' = r ∧ i_Rel (k + 4) u' v) v v1) u v1) ?_ I
  intro D C ac cu dX dY dP xs ys sz sx sy sc bk nx lr co re st sr he av ow ms yx yy R G
  have hC := R.2.1
  unfold wpX_spans wpY_spans
  dsimp only
  refine xq_row (fun c => yq_badR (fun d => absurd d c) (fun _ => br_f (by decide) ⟨rfl, zz_in R G⟩)) (fun c => ?_)
  obtain ⟨j, hj, rfl⟩ := c
  refine zz_rf (k := k + 4) R G (fun ac cu bk nx lr co re st sr he av ow ms g J => ⟨25, xq_spans g hj ?_ 24 0 25 (by omega) (by omega)⟩)
  refine yq_badR (fun _ => br_t rfl ⟨25, yq_spans hC (zz_sd R) ⟨?_, J⟩ 24 0 25 (by omega) (by omega)⟩) (fun d => absurd ⟨j, hj, rfl⟩ d)
  rw [zz_Tv R]
theorem i_vc_spanStart {k : Nat} {u : SX} {v : SY} (I : i_Rel k u v) (hk : k + 4 ≤ 2048) (v1 : Int32) (v2 : Int32) : wpX_spanStart (fun r u' => wpY_spanStart (fun r' => r' = r ∧ i_Rel (k + 4) u' v) v v1 v2) u v1 v2 := by
  refine zz_el (P := fun u v => wpX_spanStart (fun r u' => wpY_spanStart (fun r' => r' = r ∧ i_Rel (k + 4) u' v) v v1 v2) u v1 v2) ?_ I
  intro D C ac cu dX dY dP xs ys sz sx sy sc bk nx lr co re st sr he av ow ms yx yy R G
  have hC := R.2.1
  unfold wpY_spanStart wpY_startOf
  dsimp only
  refine xq_spanStart (k := k + 4) R G (fun c => yq_badR (fun d => absurd d c) (fun _ => br_f (by decide) ⟨rfl, zz_in R G⟩)) (fun j hj ej ac cu bk nx lr co re st sr he av ow ms g J => ?_)
  subst ej
  refine yq_badR (fun _ => br_t rfl ⟨25, yq_5 hC (zz_sd R) 24 0 0 25 (by omega) (by omega) ⟨?_, J⟩⟩) (fun d => absurd ⟨j, hj, rfl⟩ d)
  rw [zz_Tv R]
theorem i_vc_spanOwner {k : Nat} {u : SX} {v : SY} (I : i_Rel k u v) (hk : k + 4 ≤ 2048) (v1 : Int32) (v2 : Int32) : wpX_spanOwner (fun r u' => wpY_spanOwner (fun r' => r' = r ∧ i_Rel (k + 4) u' v) v v1 v2) u v1 v2 := by
  refine zz_el (P := fun u v => wpX_spanOwner (fun r u' => wpY_spanOwner (fun r' => r' = r ∧ i_Rel (k + 4) u' v) v v1 v2) u v1 v2) ?_ I
  intro D C ac cu dX dY dP xs ys sz sx sy sc bk nx lr co re st sr he av ow ms yx yy R G
  have hC := R.2.1
  unfold wpX_spanOwner wpY_spanOwner wpY_startOf
  dsimp only
  refine xq_spanStart (k := k + 4) R G (fun c => br_f (by decide) (yq_badR (fun d => absurd d c) (fun _ => br_f (by decide) ⟨rfl, zz_in R G⟩))) (fun j hj ej ac cu bk nx lr co re st sr he av ow ms g J => ?_)
  subst ej
  dsimp only
  rcases sh_ss_in (sh_bg (sh_Tv C xs ys sz sx sy sc) j) v2 24 0 0 (by omega) with e | ⟨i, hi, e⟩
  · rw [e]
    refine br_f (by decide) (yq_badR (fun _ => br_t rfl ⟨25, yq_5 hC (zz_sd R) 24 0 0 25 (by omega) (by omega) ?_⟩) (fun d => absurd ⟨j, hj, rfl⟩ d))
    rw [zz_Tv R, e]
    exact br_f (by decide) ⟨rfl, J⟩
  · rw [e, sh_24k, nI_clamp (show 24 * j + i < 2 ^ 31 by omega)]
    refine br_t (nI_pos' (by omega)) ⟨vp_in_nI (by omega) (by omega), nm_r (e' := sh_en (sh_ow C xs ys sz sx sy sc i j)) (by rw [g.1 _ (by omega), sh_tg_at hi]) ?_⟩
    cases o : sh_ow C xs ys sz sx sy sc i j with
    | none =>
      refine br_t rfl (yq_badR (fun _ => br_t rfl ⟨25, yq_5 hC (zz_sd R) 24 0 0 25 (by omega) (by omega) ?_⟩) (fun d => absurd ⟨j, hj, rfl⟩ d))
      rw [zz_Tv R, e]
      refine br_t (nI_pos' (by omega)) (ya_own hC (zz_sd R) ?_)
      rw [zz_ow R, o]
      exact br_f (by decide) ⟨rfl, J⟩
    | some p =>
      have hp := (sh_fr_is o).1
      refine br_f (fun z => ?_) (yq_badR (fun _ => br_t rfl ⟨25, yq_5 hC (zz_sd R) 24 0 0 25 (by omega) (by omega) ?_⟩) (fun d => absurd ⟨j, hj, rfl⟩ d))
      · have z2 := congrArg Int32.toInt (show nI p = -2 from z)
        rw [nI_toInt (by omega), show (-2 : Int32).toInt = -2 by decide] at z2
        omega
      · rw [zz_Tv R, e]
        refine br_t (nI_pos' (by omega)) (ya_own hC (zz_sd R) ?_)
        rw [zz_ow R, o]
        exact br_t (nI_pos' (by omega)) ⟨rfl, J⟩
end
section
/-! the counts over the window -/
theorem sh_cn_congr {f g : Nat → Bool} : ∀ n, (∀ k, k < n → f k = g k) → sh_cn f n = sh_cn g n := by
  intro n
  induction n with
  | zero => intro _; rfl
  | succ n ih =>
    intro h
    have e := ih (fun k hk => h k (by omega))
    cases c : g n
    · rw [sh_cn_f c, sh_cn_f (show f n = false by rw [h n (by omega)]; exact c), e]
    · rw [sh_cn_t c, sh_cn_t (show f n = true by rw [h n (by omega)]; exact c), e]
def sh_fo (T : Nat → Int32) (v : Int32) (q : Nat) : Bool := decide (T q = v)
def sh_fl (T : Nat → Int32) (q : Nat) : Bool := !decide (T q = -2)
def sh_fs (T : Nat → Int32) (q : Nat) : Bool := decide (¬ q % 24 = 0) && ((!decide (T q = -2) && !decide (T (q - 1) = -2)) && !decide (T q = T (q - 1)))
def sh_fc (xs ys sz : Nat → Int32) (p q : Nat) : Bool := sh_cov xs ys sz p (q % 24) (q / 24)
theorem sh_288 (j : Nat) : 24 * j + 24 = 24 * (j + 1) := by omega
section
variable {ds cn ac cu : Int32} {dX dY dP xs ys sz sx sy sc bk nx lr co re st sr he av ow ms : Nat → Int32} {pt dA dB dC dn : Int32} {yx yy sd pa pb pc : Nat → Int32} {C D : Nat}
theorem zz_tg (R : sh_Rf D C dX dY dP xs ys sz sx sy sc yx yy) : sh_tg C yx yy sz sx sy sc = sh_tg C xs ys sz sx sy sc := by
  funext q
  exact congrArg sh_en (zz_ow R)
theorem xw_owned {post : Int32 → SX → Prop} {v : Int32} (h : post (nI (sh_cn (sh_fo ow v) 288)) (ds, cn, ac, cu, dX, dY, dP, xs, ys, sz, sx, sy, sc, bk, nx, lr, co, re, st, sr, he, av, ow, ms)) :
    ∀ (m q n : Nat), q + m = 288 → m < n → wX_owned_18 post v ds cn ac cu dX dY dP xs ys sz sx sy sc bk nx lr co re st sr he av ow ms n (nI (sh_cn (sh_fo ow v) q)) (nI q) := by
  intro m
  induction m with
  | zero =>
    intro q n hq hn
    obtain ⟨n, rfl⟩ : ∃ n', n = n' + 1 := ⟨n - 1, by omega⟩
    rw [wX_owned_18]
    rw [show q = 288 by omega]
    exact br_t (nI_le (a := 288) (b := 288) (by omega) (by omega)) h
  | succ m ih =>
    intro q n hq hn
    obtain ⟨n, rfl⟩ : ∃ n', n = n' + 1 := ⟨n - 1, by omega⟩
    rw [wX_owned_18]
    dsimp only
    rw [nI_clamp (show q < 2 ^ 31 by omega)]
    have k := ih (q + 1) n (by omega) (by omega)
    refine br_f (nI_ge (b := 288) (by omega) (by omega)) ⟨vp_in_nI (by omega) (by omega), ?_⟩
    by_cases c : ow q = v
    · rw [sh_cn_t (f := sh_fo ow v) (decide_eq_true c)] at k
      exact br_t c (nm_r (nI_1 _) (nm_r (nI_1 q) k))
    · rw [sh_cn_f (f := sh_fo ow v) (decide_eq_false c)] at k
      exact br_f c (nm_r (nI_1 q) k)
theorem xw_lit {post : Int32 → SX → Prop} (h : post (nI (sh_cn (sh_fl ow) 288)) (ds, cn, ac, cu, dX, dY, dP, xs, ys, sz, sx, sy, sc, bk, nx, lr, co, re, st, sr, he, av, ow, ms)) :
    ∀ (m q n : Nat), q + m = 288 → m < n → wX_lit_8 post ds cn ac cu dX dY dP xs ys sz sx sy sc bk nx lr co re st sr he av ow ms n (nI (sh_cn (sh_fl ow) q)) (nI q) := by
  intro m
  induction m with
  | zero =>
    intro q n hq hn
    obtain ⟨n, rfl⟩ : ∃ n', n = n' + 1 := ⟨n - 1, by omega⟩
    rw [wX_lit_8]
    rw [show q = 288 by omega]
    exact br_t (nI_le (a := 288) (b := 288) (by omega) (by omega)) h
  | succ m ih =>
    intro q n hq hn
    obtain ⟨n, rfl⟩ : ∃ n', n = n' + 1 := ⟨n - 1, by omega⟩
    rw [wX_lit_8]
    dsimp only
    rw [nI_clamp (show q < 2 ^ 31 by omega)]
    have k := ih (q + 1) n (by omega) (by omega)
    refine br_f (nI_ge (b := 288) (by omega) (by omega)) ⟨vp_in_nI (by omega) (by omega), ?_⟩
    by_cases c : ow q = -2
    · rw [sh_cn_f (f := sh_fl ow) (show sh_fl ow q = false by unfold sh_fl; rw [decide_eq_true c]; rfl)] at k
      exact br_t c (nm_r (nI_1 q) k)
    · rw [sh_cn_t (f := sh_fl ow) (show sh_fl ow q = true by unfold sh_fl; rw [decide_eq_false c]; rfl)] at k
      exact br_f c (nm_r (nI_1 _) (nm_r (nI_1 q) k))
theorem xw_covered {post : Int32 → SX → Prop} {p : Nat} (hp : p < 32) (h : post (nI (sh_cn (fun q => bt (ms q) p) 288)) (ds, cn, ac, cu, dX, dY, dP, xs, ys, sz, sx, sy, sc, bk, nx, lr, co, re, st, sr, he, av, ow, ms)) :
    ∀ (m q n : Nat), q + m = 288 → m < n → wX_covered_18 post (nI p) ds cn ac cu dX dY dP xs ys sz sx sy sc bk nx lr co re st sr he av ow ms n (nI (sh_cn (fun q => bt (ms q) p) q)) (nI q) := by
  intro m
  induction m with
  | zero =>
    intro q n hq hn
    obtain ⟨n, rfl⟩ : ∃ n', n = n' + 1 := ⟨n - 1, by omega⟩
    rw [wX_covered_18]
    rw [show q = 288 by omega]
    exact br_t (nI_le (a := 288) (b := 288) (by omega) (by omega)) h
  | succ m ih =>
    intro q n hq hn
    obtain ⟨n, rfl⟩ : ∃ n', n = n' + 1 := ⟨n - 1, by omega⟩
    rw [wX_covered_18]
    dsimp only
    rw [nI_clamp (show q < 2 ^ 31 by omega), sh_bit hp]
    have k := ih (q + 1) n (by omega) (by omega)
    refine br_f (nI_ge (b := 288) (by omega) (by omega)) ⟨vp_in_nI (by omega) (by omega), ?_⟩
    cases c : bt (ms q) p
    · rw [sh_cn_f (f := fun q => bt (ms q) p) c] at k
      exact nm_r (Int32.add_zero _) (nm_r (nI_1 q) k)
    · rw [sh_cn_t (f := fun q => bt (ms q) p) c] at k
      exact nm_r (nI_1 _) (nm_r (nI_1 q) k)
theorem xw_seams {post : Int32 → SX → Prop} (h : post (nI (sh_cn (sh_fs ow) 288)) (ds, cn, ac, cu, dX, dY, dP, xs, ys, sz, sx, sy, sc, bk, nx, lr, co, re, st, sr, he, av, ow, ms)) :
    ∀ (m q n : Nat), q + m = 288 → 0 < q → m < n → wX_seams_8 post ds cn ac cu dX dY dP xs ys sz sx sy sc bk nx lr co re st sr he av ow ms n (nI (sh_cn (sh_fs ow) q)) (nI q) := by
  intro m
  induction m with
  | zero =>
    intro q n hq h0 hn
    obtain ⟨n, rfl⟩ : ∃ n', n = n' + 1 := ⟨n - 1, by omega⟩
    rw [wX_seams_8]
    rw [show q = 288 by omega]
    exact br_t (nI_le (a := 288) (b := 288) (by omega) (by omega)) h
  | succ m ih =>
    intro q n hq h0 hn
    obtain ⟨n, rfl⟩ : ∃ n', n = n' + 1 := ⟨n - 1, by omega⟩
    have e1 : nI q - 1 = nI (q - 1) := pk_sub (a := q) (b := 1) (by omega)
    have e24 : nI q - nI q / 24 * 24 = nI (q % 24) := pk_rem (d := 24) (by omega) (by omega) (by omega)
    have i1 : vp_in (nI q) 288 := vp_in_nI (by omega) (by omega)
    have i2 : vp_in (nI (q - 1)) 288 := vp_in_nI (by omega) (by omega)
    have k := ih (q + 1) n (by omega) (by omega) (by omega)
    have no : sh_fs ow q = false → wX_seams_8 post ds cn ac cu dX dY dP xs ys sz sx sy sc bk nx lr co re st sr he av ow ms n (nI (sh_cn (sh_fs ow) q)) (nI (q + 1)) := by
      intro c
      rw [sh_cn_f c] at k
      exact k
    have k44 : ∀ z : Bool, z = (!decide (ow q = -2) && !decide (ow (q - 1) = -2)) → wX_seams_44 post (wX_seams_8 post ds cn ac cu dX dY dP xs ys sz sx sy sc bk nx lr co re st sr he av ow ms n) (nI (sh_cn (sh_fs ow) q)) (nI q) (sh_b z) ds cn ac cu dX dY dP xs ys sz sx sy sc bk nx lr co re st sr he av ow ms := by
      intro z hz
      unfold wX_seams_44
      rw [e24, e1, nI_clamp (show q < 2 ^ 31 by omega), nI_clamp (show q - 1 < 2 ^ 31 by omega)]
      refine ⟨by decide, ?_⟩
      by_cases c : q % 24 = 0
      · refine br_t (by rw [c]; rfl) (nm_r (nI_1 q) (no ?_))
        unfold sh_fs
        rw [decide_eq_false (fun y => y c)]
        rfl
      · refine br_f (nI_ne0 (by omega) (by omega)) ?_
        have c' : decide (¬ q % 24 = 0) = true := decide_eq_true c
        cases z
        · refine br_t rfl (nm_r (nI_1 q) (no ?_))
          unfold sh_fs
          rw [← hz, Bool.false_and, Bool.and_false]
        · refine br_f (by decide) ⟨i1, i2, ?_⟩
          by_cases d : ow q = ow (q - 1)
          · refine br_t d (nm_r (nI_1 q) (no ?_))
            unfold sh_fs
            rw [← hz, c', decide_eq_true d]
            rfl
          · have t : sh_fs ow q = true := by
              unfold sh_fs
              rw [← hz, c', decide_eq_false d]
              rfl
            rw [sh_cn_t t] at k
            exact br_f d (nm_r (nI_1 _) (nm_r (nI_1 q) k))
    rw [wX_seams_8]
    dsimp only
    rw [e1, nI_clamp (show q < 2 ^ 31 by omega), nI_clamp (show q - 1 < 2 ^ 31 by omega)]
    refine br_f (nI_ge (b := 288) (by omega) (by omega)) ⟨i1, ?_⟩
    by_cases a : ow q = -2
    · refine br_t a ?_
      unfold wX_seams_43
      exact k44 false (by rw [decide_eq_true a]; rfl)
    · refine br_f a ⟨i2, ?_⟩
      by_cases b : ow (q - 1) = -2
      · refine br_t b ?_
        unfold wX_seams_43
        exact k44 false (by rw [decide_eq_true b, Bool.not_true, Bool.and_false])
      · exact br_f b (k44 true (by rw [decide_eq_false a, decide_eq_false b]; rfl))
/-! the reference's rows of columns -/
theorem yw_owned {post : Int32 → Prop} {v : Int32} (hc : C ≤ 6) (hs : ∀ p, p < C → sd p = nI (sh_cl sd p) ∧ sh_cl sd p ≤ 8) (h : post (nI (sh_cn (sh_fo (sh_tg C yx yy sd pa pb pc) v) 288))) :
    ∀ (m j n : Nat), j + m = 12 → m < n → wY_owned_14 post v pt dA dB dC (nI C) yx yy sd pa pb pc n (nI (sh_cn (sh_fo (sh_tg C yx yy sd pa pb pc) v) (24 * j))) (nI j) := by
  intro m
  induction m with
  | zero =>
    intro j n hj hn
    obtain ⟨n, rfl⟩ : ∃ n', n = n' + 1 := ⟨n - 1, by omega⟩
    rw [wY_owned_14]
    rw [show j = 12 by omega]
    exact br_t (nI_le (a := 12) (b := 12) (by omega) (by omega)) h
  | succ m ih =>
    intro j n hj hn
    obtain ⟨n, rfl⟩ : ∃ n', n = n' + 1 := ⟨n - 1, by omega⟩
    rw [wY_owned_14]
    have inner : ∀ (a i n' : Nat), i + a = 24 → a < n' → wY_owned_23 post (wY_owned_14 post v pt dA dB dC (nI C) yx yy sd pa pb pc n) v (nI j) pt dA dB dC (nI C) yx yy sd pa pb pc n' (nI (sh_cn (sh_fo (sh_tg C yx yy sd pa pb pc) v) (24 * j + i))) (nI i) := by
      intro a
      induction a with
      | zero =>
        intro i n' hi hn'
        obtain ⟨n', rfl⟩ : ∃ n'', n' = n'' + 1 := ⟨n' - 1, by omega⟩
        rw [wY_owned_23]
        rw [show i = 24 by omega, sh_288]
        exact br_t (nI_le (a := 24) (b := 24) (by omega) (by omega)) (nm_r (nI_1 j) (ih (j + 1) n (by omega) (by omega)))
      | succ a iha =>
        intro i n' hi hn'
        obtain ⟨n', rfl⟩ : ∃ n'', n' = n'' + 1 := ⟨n' - 1, by omega⟩
        rw [wY_owned_23]
        have k := iha (i + 1) n' (by omega) (by omega)
        rw [← Nat.add_assoc] at k
        refine br_f (nI_ge (b := 24) (by omega) (by omega)) (ya_own hc hs ?_)
        rw [← sh_tg_at (show i < 24 by omega)]
        by_cases c : sh_tg C yx yy sd pa pb pc (24 * j + i) = v
        · rw [sh_cn_t (f := sh_fo (sh_tg C yx yy sd pa pb pc) v) (decide_eq_true c)] at k
          exact br_t c (nm_r (nI_1 _) (nm_r (nI_1 i) k))
        · rw [sh_cn_f (f := sh_fo (sh_tg C yx yy sd pa pb pc) v) (decide_eq_false c)] at k
          exact br_f c (nm_r (nI_1 i) k)
    exact br_f (nI_ge (b := 12) (by omega) (by omega)) ⟨25, inner 24 0 25 (by omega) (by omega)⟩
theorem yw_covered {post : Int32 → Prop} {p : Nat} (hp : p < 6) (h8 : sh_cl sd p ≤ 8) (hs : sd p = nI (sh_cl sd p)) (h : post (nI (sh_cn (sh_fc yx yy sd p) 288))) :
    ∀ (m j n : Nat), j + m = 12 → m < n → wY_covered_14 post (nI p) pt dA dB dC dn yx yy sd pa pb pc n (nI (sh_cn (sh_fc yx yy sd p) (24 * j))) (nI j) := by
  intro m
  induction m with
  | zero =>
    intro j n hj hn
    obtain ⟨n, rfl⟩ : ∃ n', n = n' + 1 := ⟨n - 1, by omega⟩
    rw [wY_covered_14]
    rw [show j = 12 by omega]
    exact br_t (nI_le (a := 12) (b := 12) (by omega) (by omega)) h
  | succ m ih =>
    intro j n hj hn
    obtain ⟨n, rfl⟩ : ∃ n', n = n' + 1 := ⟨n - 1, by omega⟩
    rw [wY_covered_14]
    have inner : ∀ (a i n' : Nat), i + a = 24 → a < n' → wY_covered_23 post (wY_covered_14 post (nI p) pt dA dB dC dn yx yy sd pa pb pc n) (nI p) (nI j) pt dA dB dC dn yx yy sd pa pb pc n' (nI (sh_cn (sh_fc yx yy sd p) (24 * j + i))) (nI i) := by
      intro a
      induction a with
      | zero =>
        intro i n' hi hn'
        obtain ⟨n', rfl⟩ : ∃ n'', n' = n'' + 1 := ⟨n' - 1, by omega⟩
        rw [wY_covered_23]
        rw [show i = 24 by omega, sh_288]
        exact br_t (nI_le (a := 24) (b := 24) (by omega) (by omega)) (nm_r (nI_1 j) (ih (j + 1) n (by omega) (by omega)))
      | succ a iha =>
        intro i n' hi hn'
        obtain ⟨n', rfl⟩ : ∃ n'', n' = n'' + 1 := ⟨n' - 1, by omega⟩
        rw [wY_covered_23]
        have k := iha (i + 1) n' (by omega) (by omega)
        rw [← Nat.add_assoc] at k
        have e : sh_fc yx yy sd p (24 * j + i) = sh_cov yx yy sd p i j := by
          unfold sh_fc
          rw [show (24 * j + i) % 24 = i by omega, show (24 * j + i) / 24 = j by omega]
        refine br_f (nI_ge (b := 24) (by omega) (by omega)) (ya_cov hp h8 hs ?_)
        cases c : sh_cov yx yy sd p i j
        · rw [sh_cn_f (f := sh_fc yx yy sd p) (e.trans c)] at k
          exact br_t rfl (nm_r (nI_1 i) k)
        · rw [sh_cn_t (f := sh_fc yx yy sd p) (e.trans c)] at k
          exact br_f (by decide) (nm_r (nI_1 _) (nm_r (nI_1 i) k))
    exact br_f (nI_ge (b := 12) (by omega) (by omega)) ⟨25, inner 24 0 25 (by omega) (by omega)⟩
theorem yw_lit {post : Int32 → Prop} (hc : C ≤ 6) (hs : ∀ p, p < C → sd p = nI (sh_cl sd p) ∧ sh_cl sd p ≤ 8) (h : post (nI (sh_cn (sh_fl (sh_tg C yx yy sd pa pb pc)) 288))) :
    ∀ (m j n : Nat), j + m = 12 → m < n → wY_lit_4 post pt dA dB dC (nI C) yx yy sd pa pb pc n (nI (sh_cn (sh_fl (sh_tg C yx yy sd pa pb pc)) (24 * j))) (nI j) := by
  intro m
  induction m with
  | zero =>
    intro j n hj hn
    obtain ⟨n, rfl⟩ : ∃ n', n = n' + 1 := ⟨n - 1, by omega⟩
    rw [wY_lit_4]
    rw [show j = 12 by omega]
    exact br_t (nI_le (a := 12) (b := 12) (by omega) (by omega)) h
  | succ m ih =>
    intro j n hj hn
    obtain ⟨n, rfl⟩ : ∃ n', n = n' + 1 := ⟨n - 1, by omega⟩
    rw [wY_lit_4]
    have inner : ∀ (a i n' : Nat), i + a = 24 → a < n' → wY_lit_12 post (wY_lit_4 post pt dA dB dC (nI C) yx yy sd pa pb pc n) (nI j) pt dA dB dC (nI C) yx yy sd pa pb pc n' (nI (sh_cn (sh_fl (sh_tg C yx yy sd pa pb pc)) (24 * j + i))) (nI i) := by
      intro a
      induction a with
      | zero =>
        intro i n' hi hn'
        obtain ⟨n', rfl⟩ : ∃ n'', n' = n'' + 1 := ⟨n' - 1, by omega⟩
        rw [wY_lit_12]
        rw [show i = 24 by omega, sh_288]
        exact br_t (nI_le (a := 24) (b := 24) (by omega) (by omega)) (nm_r (nI_1 j) (ih (j + 1) n (by omega) (by omega)))
      | succ a iha =>
        intro i n' hi hn'
        obtain ⟨n', rfl⟩ : ∃ n'', n' = n'' + 1 := ⟨n' - 1, by omega⟩
        rw [wY_lit_12]
        have k := iha (i + 1) n' (by omega) (by omega)
        rw [← Nat.add_assoc] at k
        refine br_f (nI_ge (b := 24) (by omega) (by omega)) (ya_own hc hs ?_)
        have lt := sh_Tv_lt (xs := yx) (ys := yy) (sz := sd) (sx := pa) (sy := pb) (sc := pc) (i := i) (j := j) hc
        rw [← sh_tg_Tv (show i < 24 by omega)] at lt
        rw [← sh_tg_at (show i < 24 by omega)]
        by_cases c : sh_tg C yx yy sd pa pb pc (24 * j + i) = -2
        · rw [sh_cn_f (f := sh_fl (sh_tg C yx yy sd pa pb pc)) (show sh_fl (sh_tg C yx yy sd pa pb pc) (24 * j + i) = false by unfold sh_fl; rw [decide_eq_true c]; rfl)] at k
          exact br_t (lt.mpr c) (nm_r (nI_1 i) k)
        · rw [sh_cn_t (f := sh_fl (sh_tg C yx yy sd pa pb pc)) (show sh_fl (sh_tg C yx yy sd pa pb pc) (24 * j + i) = true by unfold sh_fl; rw [decide_eq_false c]; rfl)] at k
          exact br_f (fun z => c (lt.mp z)) (nm_r (nI_1 _) (nm_r (nI_1 i) k))
    exact br_f (nI_ge (b := 12) (by omega) (by omega)) ⟨25, inner 24 0 25 (by omega) (by omega)⟩
theorem yw_seams {post : Int32 → Prop} (hc : C ≤ 6) (hs : ∀ p, p < C → sd p = nI (sh_cl sd p) ∧ sh_cl sd p ≤ 8) (h : post (nI (sh_cn (sh_fs (sh_tg C yx yy sd pa pb pc)) 288))) :
    ∀ (m j n : Nat), j + m = 12 → m < n → wY_seams_4 post pt dA dB dC (nI C) yx yy sd pa pb pc n (nI (sh_cn (sh_fs (sh_tg C yx yy sd pa pb pc)) (24 * j))) (nI j) := by
  intro m
  induction m with
  | zero =>
    intro j n hj hn
    obtain ⟨n, rfl⟩ : ∃ n', n = n' + 1 := ⟨n - 1, by omega⟩
    rw [wY_seams_4]
    rw [show j = 12 by omega]
    exact br_t (nI_le (a := 12) (b := 12) (by omega) (by omega)) h
  | succ m ih =>
    intro j n hj hn
    obtain ⟨n, rfl⟩ : ∃ n', n = n' + 1 := ⟨n - 1, by omega⟩
    rw [wY_seams_4]
    have inner : ∀ (a i n' : Nat), i + a = 24 → 0 < i → a < n' → wY_seams_12 post (wY_seams_4 post pt dA dB dC (nI C) yx yy sd pa pb pc n) (nI j) pt dA dB dC (nI C) yx yy sd pa pb pc n' (nI (sh_cn (sh_fs (sh_tg C yx yy sd pa pb pc)) (24 * j + i))) (nI i) := by
      intro a
      induction a with
      | zero =>
        intro i n' hi h0 hn'
        obtain ⟨n', rfl⟩ : ∃ n'', n' = n'' + 1 := ⟨n' - 1, by omega⟩
        rw [wY_seams_12]
        rw [show i = 24 by omega, sh_288]
        exact br_t (nI_le (a := 24) (b := 24) (by omega) (by omega)) (nm_r (nI_1 j) (ih (j + 1) n (by omega) (by omega)))
      | succ a iha =>
        intro i n' hi h0 hn'
        obtain ⟨n', rfl⟩ : ∃ n'', n' = n'' + 1 := ⟨n' - 1, by omega⟩
        rw [wY_seams_12]
        have k := iha (i + 1) n' (by omega) (by omega) (by omega)
        rw [← Nat.add_assoc] at k
        have e1 : nI i - 1 = nI (i - 1) := pk_sub (a := i) (b := 1) (by omega)
        dsimp only
        rw [e1]
        refine br_f (nI_ge (b := 24) (by omega) (by omega)) (ya_own hc hs (ya_own hc hs ?_))
        have lt := sh_Tv_lt (xs := yx) (ys := yy) (sz := sd) (sx := pa) (sy := pb) (sc := pc) (i := i) (j := j) hc
        have lt2 := sh_Tv_lt (xs := yx) (ys := yy) (sz := sd) (sx := pa) (sy := pb) (sc := pc) (i := i - 1) (j := j) hc
        rw [← sh_tg_Tv (show i < 24 by omega)] at lt
        rw [← sh_tg_Tv (show i - 1 < 24 by omega)] at lt2
        rw [← sh_tg_at (show i < 24 by omega), ← sh_tg_at (show i - 1 < 24 by omega)]
        have e2 : 24 * j + i - 1 = 24 * j + (i - 1) := by omega
        have e3 : decide (¬ (24 * j + i) % 24 = 0) = true := decide_eq_true (by omega)
        have no : sh_fs (sh_tg C yx yy sd pa pb pc) (24 * j + i) = false → wY_seams_12 post (wY_seams_4 post pt dA dB dC (nI C) yx yy sd pa pb pc n) (nI j) pt dA dB dC (nI C) yx yy sd pa pb pc n' (nI (sh_cn (sh_fs (sh_tg C yx yy sd pa pb pc)) (24 * j + i))) (nI (i + 1)) := by
          intro c
          rw [sh_cn_f c] at k
          exact k
        by_cases c : sh_tg C yx yy sd pa pb pc (24 * j + i) = -2
        · refine br_t (lt.mpr c) (nm_r (nI_1 i) (no ?_))
          unfold sh_fs
          rw [decide_eq_true c, Bool.not_true, Bool.false_and, Bool.false_and, Bool.and_false]
        · refine br_f (fun z => c (lt.mp z)) ?_
          by_cases d : sh_tg C yx yy sd pa pb pc (24 * j + (i - 1)) = -2
          · refine br_t (lt2.mpr d) (nm_r (nI_1 i) (no ?_))
            unfold sh_fs
            rw [e2, decide_eq_true d, Bool.not_true, Bool.and_false, Bool.false_and, Bool.and_false]
          · refine br_f (fun z => d (lt2.mp z)) ?_
            by_cases b : sh_tg C yx yy sd pa pb pc (24 * j + i) = sh_tg C yx yy sd pa pb pc (24 * j + (i - 1))
            · refine br_t b (nm_r (nI_1 i) (no ?_))
              unfold sh_fs
              rw [e2, decide_eq_true b, Bool.not_true, Bool.and_false, Bool.and_false]
            · have t : sh_fs (sh_tg C yx yy sd pa pb pc) (24 * j + i) = true := by
                unfold sh_fs
                rw [e2, e3, decide_eq_false b, decide_eq_false c, decide_eq_false d]
                rfl
              rw [sh_cn_t t] at k
              exact br_f b (nm_r (nI_1 _) (nm_r (nI_1 i) k))
    have k1 := inner 23 1 24 (by omega) (by omega) (by omega)
    have z : sh_fs (sh_tg C yx yy sd pa pb pc) (24 * j) = false := by
      unfold sh_fs
      rw [decide_eq_false (by omega)]
      rfl
    rw [sh_cn_f z] at k1
    exact br_f (nI_ge (b := 12) (by omega) (by omega)) ⟨24, k1⟩
end
end
section
/-! the owed statements on counts -/
theorem sh_fo_c {T U : Nat → Int32} {v : Int32} {q : Nat} (h : T q = U q) : sh_fo T v q = sh_fo U v q := by
  unfold sh_fo
  rw [h]
theorem sh_fl_c {T U : Nat → Int32} {q : Nat} (h : T q = U q) : sh_fl T q = sh_fl U q := by
  unfold sh_fl
  rw [h]
theorem sh_fs_c {T U : Nat → Int32} {q : Nat} (h : T q = U q) (h2 : T (q - 1) = U (q - 1)) : sh_fs T q = sh_fs U q := by
  unfold sh_fs
  rw [h, h2]
theorem i_vc_owned {k : Nat} {u : SX} {v : SY} (I : i_Rel k u v) (hk : k + 4 ≤ 2048) (v1 : Int32) : wpX_owned (fun r u' => wpY_owned (fun r' => r' = r ∧ i_Rel (k + 4) u' v) v v1) u v1 := by
  refine zz_el (P := fun u v => wpX_owned (fun r u' => wpY_owned (fun r' => r' = r ∧ i_Rel (k + 4) u' v) v v1) u v1) ?_ I
  intro D C ac cu dX dY dP xs ys sz sx sy sc bk nx lr co re st sr he av ow ms yx yy R G
  have hC := R.2.1
  unfold wpX_owned wpY_owned
  dsimp only
  refine xm_isDrawn hC (fun c => br_t rfl (ym_missing hC (fun _ => br_f (by decide) ⟨rfl, zz_in R G⟩) (fun d => absurd d c))) (fun c => br_f (by decide) ?_)
  refine zz_rf (k := k + 4) R G (fun ac cu bk nx lr co re st sr he av ow ms g J => ⟨289, xw_owned ?_ 288 0 289 (by omega) (by omega)⟩)
  refine ym_missing hC (fun d => absurd c d) (fun _ => br_t rfl ⟨13, yw_owned hC (zz_sd R) ⟨?_, J⟩ 12 0 13 (by omega) (by omega)⟩)
  rw [zz_tg R]
  exact congrArg nI (sh_cn_congr 288 (fun q hq => sh_fo_c (g.1 q hq).symm))
theorem i_vc_covered {k : Nat} {u : SX} {v : SY} (I : i_Rel k u v) (hk : k + 4 ≤ 2048) (v1 : Int32) : wpX_covered (fun r u' => wpY_covered (fun r' => r' = r ∧ i_Rel (k + 4) u' v) v v1) u v1 := by
  refine zz_el (P := fun u v => wpX_covered (fun r u' => wpY_covered (fun r' => r' = r ∧ i_Rel (k + 4) u' v) v v1) u v1) ?_ I
  intro D C ac cu dX dY dP xs ys sz sx sy sc bk nx lr co re st sr he av ow ms yx yy R G
  have hC := R.2.1
  unfold wpX_covered wpY_covered
  dsimp only
  refine xm_isDrawn hC (fun c => br_t rfl (ym_missing hC (fun _ => br_f (by decide) ⟨rfl, zz_in R G⟩) (fun d => absurd d c))) (fun c => br_f (by decide) ?_)
  obtain ⟨p, hp, rfl⟩ := c
  refine zz_rf (k := k + 4) R G (fun ac cu bk nx lr co re st sr he av ow ms g J => ⟨289, xw_covered (by omega) ?_ 288 0 289 (by omega) (by omega)⟩)
  refine ym_missing hC (fun d => absurd ⟨p, hp, rfl⟩ d) (fun _ => br_t rfl ⟨13, yw_covered (by omega) (zz_sd R p hp).2 (zz_sd R p hp).1 ⟨?_, J⟩ 12 0 13 (by omega) (by omega)⟩)
  exact congrArg nI (sh_cn_congr 288 (fun q hq => (show sh_fc yx yy sz p q = bt (ms q) p from (zz_cov R hp).trans (g.2 q hq p hp).symm)))
theorem i_vc_lit {k : Nat} {u : SX} {v : SY} (I : i_Rel k u v) (hk : k + 4 ≤ 2048) : wpX_lit (fun r u' => wpY_lit (fun r' => r' = r ∧ i_Rel (k + 4) u' v) v) u := by
  refine zz_el (P := fun u v => wpX_lit (fun r u' => wpY_lit (fun r' => r' = r ∧ i_Rel (k + 4) u' v) v) u) ?_ I
  intro D C ac cu dX dY dP xs ys sz sx sy sc bk nx lr co re st sr he av ow ms yx yy R G
  have hC := R.2.1
  unfold wpX_lit wpY_lit
  dsimp only
  refine zz_rf (k := k + 4) R G (fun ac cu bk nx lr co re st sr he av ow ms g J => ⟨289, xw_lit ?_ 288 0 289 (by omega) (by omega)⟩)
  refine ⟨13, yw_lit hC (zz_sd R) ⟨?_, J⟩ 12 0 13 (by omega) (by omega)⟩
  rw [zz_tg R]
  exact congrArg nI (sh_cn_congr 288 (fun q hq => sh_fl_c (g.1 q hq).symm))
theorem i_vc_seams {k : Nat} {u : SX} {v : SY} (I : i_Rel k u v) (hk : k + 4 ≤ 2048) : wpX_seams (fun r u' => wpY_seams (fun r' => r' = r ∧ i_Rel (k + 4) u' v) v) u := by
  refine zz_el (P := fun u v => wpX_seams (fun r u' => wpY_seams (fun r' => r' = r ∧ i_Rel (k + 4) u' v) v) u) ?_ I
  intro D C ac cu dX dY dP xs ys sz sx sy sc bk nx lr co re st sr he av ow ms yx yy R G
  have hC := R.2.1
  unfold wpX_seams wpY_seams
  dsimp only
  refine zz_rf (k := k + 4) R G (fun ac cu bk nx lr co re st sr he av ow ms g J => ⟨288, xw_seams ?_ 287 1 288 (by omega) (by omega) (by omega)⟩)
  refine ⟨13, yw_seams hC (zz_sd R) ⟨?_, J⟩ 12 0 13 (by omega) (by omega)⟩
  rw [zz_tg R]
  exact congrArg nI (sh_cn_congr 288 (fun q hq => sh_fs_c (g.1 q hq).symm (g.1 (q - 1) (by omega)).symm))
end
