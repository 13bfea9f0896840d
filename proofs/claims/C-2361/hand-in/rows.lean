section
/-! pure rows to paste: stores, nI and lN arithmetic, masks, shifts, narrowing, branches by naturals (pk_le, pk_lt, pk_eq), loops (lp1 .. lp16: the measure of the state; rp1 ..: recursion), negatives. Take what you need -/
theorem pk_us {f : Nat → Int32} {k : Nat} {x : Int32} : upd f k x k = x := if_pos rfl
theorem pk_un {f : Nat → Int32} {k j : Nat} {x : Int32} (h : j ≠ k) : upd f k x j = f j := if_neg h
theorem pk_sub {a b : Nat} (h : b ≤ a) : nI a - nI b = nI (a - b) := by
  obtain ⟨c, rfl⟩ : ∃ c, a = c + b := ⟨a - b, by omega⟩
  rw [← nI_add, Int32.add_sub_cancel, Nat.add_sub_cancel]
theorem pk_m1 (n : Nat) : nI (n + 1) + (-1) = nI n := by
  rw [← nI_1, Int32.add_assoc, show (1 : Int32) + (-1) = 0 from rfl, Int32.add_zero]
theorem pk_mul (a b : Nat) : nI a * nI b = nI (a * b) := (Int32.ofNat_mul a b).symm
theorem pk_div {a d : Nat} (ha : a < 2 ^ 31) (h0 : 0 < d) (hd : d < 2 ^ 31) : nI a / nI d = nI (a / d) := by
  apply Int32.toInt_inj.mp
  rw [lg_idiv_nonneg (by rw [nI_toInt ha]; omega) (by rw [nI_toInt hd]; omega), nI_toInt ha, nI_toInt hd, nI_toInt (Nat.lt_of_le_of_lt (Nat.div_le_self a d) ha)]
  first | rfl | exact (Int.natCast_ediv _ _).symm
theorem pk_rem {a d : Nat} (ha : a < 2 ^ 31) (h0 : 0 < d) (hd : d < 2 ^ 31) : nI a - nI a / nI d * nI d = nI (a % d) := by
  rw [pk_div ha h0 hd, pk_mul, pk_sub (Nat.div_mul_le_self a d)]
  exact congrArg nI (by have := Nat.div_add_mod' a d; omega)
theorem pk_sub_toInt {a b : Nat} (ha : a < 2 ^ 30) (hb : b < 2 ^ 30) : (nI a - nI b).toInt = (a : Int) - b := by
  rw [Int32.toInt_sub, nI_toInt (by omega), nI_toInt (by omega)]
  exact Int.bmod_eq_of_le (by omega) (by omega)
theorem pk_sneg {a b : Nat} (hb : b < 2 ^ 30) (h : a < b) : nI a - nI b < 0 := by
  rw [Int32.lt_iff_toInt_lt, pk_sub_toInt (by omega) hb, show (0 : Int32).toInt = 0 from by decide]
  omega
theorem pk_ix (x : Int32) {n : Nat} (hn : n < 2 ^ 31) : x < 0 ∨ nI n ≤ x ∨ ∃ j : Nat, j < n ∧ x = nI j := by
  by_cases h : x < 0
  · exact Or.inl h
  · obtain ⟨j, hj, rfl⟩ := nI_of h
    by_cases h2 : j < n
    · exact Or.inr (Or.inr ⟨j, h2, rfl⟩)
    · exact Or.inr (Or.inl (nI_le (by omega) hj))
theorem pk_le {x y : Int32} {A B : Prop} (a b : Nat) (f : a ≤ b → A) (g : b < a → B) (hx : x = nI a := by rfl) (hy : y = nI b := by rfl) (ha : a < 2 ^ 31 := by omega) (hb : b < 2 ^ 31 := by omega) : (x ≤ y → A) ∧ (¬ x ≤ y → B) := by
  subst hx hy
  rw [nI_leI ha hb]
  exact ⟨f, fun z => g (by omega)⟩
theorem pk_lt {x y : Int32} {A B : Prop} (a b : Nat) (f : a < b → A) (g : b ≤ a → B) (hx : x = nI a := by rfl) (hy : y = nI b := by rfl) (ha : a < 2 ^ 31 := by omega) (hb : b < 2 ^ 31 := by omega) : (x < y → A) ∧ (¬ x < y → B) := by
  subst hx hy
  rw [nI_ltI ha hb]
  exact ⟨f, fun z => g (by omega)⟩
theorem pk_eq {x y : Int32} {A B : Prop} (a b : Nat) (f : a = b → A) (g : a ≠ b → B) (hx : x = nI a := by rfl) (hy : y = nI b := by rfl) (ha : a < 2 ^ 31 := by omega) (hb : b < 2 ^ 31 := by omega) : (x = y → A) ∧ (¬ x = y → B) := by
  subst hx hy
  rw [nI_eq ha hb]
  exact ⟨f, g⟩
theorem pk_in {x : Int32} (n N : Nat) (h : n < N) (hx : x = nI n := by rfl) (hN : N < 2 ^ 31 := by omega) : vp_in x N := by
  subst hx
  exact vp_in_nI h hN
theorem pk_cl {x : Int32} (n : Nat) (hx : x = nI n := by rfl) (h : n < 2 ^ 31 := by omega) : x.toNatClampNeg = n := by
  subst hx
  exact nI_clamp h
end
section
/-! the program's static shape, and what it comes to for every choice of rows -/
def rq_tk (k : Nat) : Nat := if k < 2 then 0 else if k ≤ 8 then 2 else if k = 9 ∨ k = 11 ∨ 13 < k then 1 else 0
def rq_h (K : Nat → Nat) : Nat → Nat
  | 0 => 0
  | i + 1 => if K i = 10 then rq_h K i else if K i = 11 then rq_h K i - 1 else rq_h K i - rq_tk (K i) + 1
def rq_o (K : Nat → Nat) : Nat → Nat
  | 0 => 0
  | i + 1 => if K i = 10 then rq_o K i + 1 else if 12 ≤ K i then rq_o K i - 1 else rq_o K i
def rq_fl (K : Nat → Nat) : Nat → Nat → Nat
  | 0 => fun _ => 0
  | i + 1 => fun b => if K i = 10 ∧ b = rq_o K i then rq_h K i else rq_fl K i b
def rq_bg (K : Nat → Nat) : Nat → Nat → Nat
  | 0 => fun _ => 0
  | i + 1 => fun b => if K i = 10 ∧ b = rq_o K i then i else rq_bg K i b
def rq_lo (K : Nat → Nat) (i : Nat) : Nat := if rq_o K i = 0 then 0 else rq_fl K i (rq_o K i - 1)
/-- token i may stand where it stands -/
def rq_Ok (K : Nat → Nat) (a : Nat → Int32) (i : Nat) : Prop :=
  K i ≤ 17 ∧ (K i = 1 → ∃ j, j ≤ 8 ∧ a i = nI j ∧ j / 3 < rq_o K i) ∧ (K i = 10 → ∃ t, t < 3 ∧ a i = nI t) ∧
  rq_lo K i + rq_tk (K i) ≤ rq_h K i ∧ (11 ≤ K i → 0 < rq_o K i ∧ rq_h K i = rq_lo K i + rq_tk (K i)) ∧
  (K i ≠ 10 → K i ≠ 11 → rq_tk (K i) = 0 → rq_h K i < 6) ∧ (K i = 10 → rq_o K i < 3)
def rq_WF (K : Nat → Nat) (a : Nat → Int32) (s : Nat) : Prop := ∀ q, q < s → rq_Ok K a q
theorem rq_s10 {K : Nat → Nat} {i : Nat} (e : K i = 10) : rq_h K (i + 1) = rq_h K i ∧ rq_o K (i + 1) = rq_o K i + 1 ∧ (∀ b, rq_fl K (i + 1) b = if b = rq_o K i then rq_h K i else rq_fl K i b) ∧ (∀ b, rq_bg K (i + 1) b = if b = rq_o K i then i else rq_bg K i b) := by
  refine ⟨if_pos e, if_pos e, fun b => ?_, fun b => ?_⟩
  · simp [rq_fl, e]
  · simp [rq_bg, e]
theorem rq_sn {K : Nat → Nat} {i : Nat} (e : K i ≠ 10) : (∀ b, rq_fl K (i + 1) b = rq_fl K i b) ∧ (∀ b, rq_bg K (i + 1) b = rq_bg K i b) :=
  ⟨fun _ => if_neg (fun z => e z.1), fun _ => if_neg (fun z => e z.1)⟩
theorem rq_s11 {K : Nat → Nat} {i : Nat} (e : K i = 11) : rq_h K (i + 1) = rq_h K i - 1 ∧ rq_o K (i + 1) = rq_o K i := by
  constructor
  · simp [rq_h, e]
  · simp [rq_o, e]
theorem rq_sE {K : Nat → Nat} {i : Nat} (e : 12 ≤ K i) : rq_h K (i + 1) = rq_h K i - rq_tk (K i) + 1 ∧ rq_o K (i + 1) = rq_o K i - 1 := by
  have h1 : K i ≠ 10 := by omega
  have h2 : K i ≠ 11 := by omega
  exact ⟨(if_neg h1).trans (if_neg h2), (if_neg h1).trans (if_pos e)⟩
theorem rq_sS {K : Nat → Nat} {i : Nat} (e : K i ≤ 9) : rq_h K (i + 1) = rq_h K i - rq_tk (K i) + 1 ∧ rq_o K (i + 1) = rq_o K i := by
  have h1 : K i ≠ 10 := by omega
  have h2 : K i ≠ 11 := by omega
  have h3 : ¬ 12 ≤ K i := by omega
  exact ⟨(if_neg h1).trans (if_neg h2), (if_neg h1).trans (if_neg h3)⟩
theorem rq_tk1 (k : Nat) (h : 14 ≤ k) : rq_tk k = 1 := by unfold rq_tk; rw [if_neg (by omega), if_neg (by omega), if_pos (by omega)]
theorem rq_tk2 (k : Nat) (h : 2 ≤ k) (h8 : k ≤ 8) : rq_tk k = 2 := by unfold rq_tk; rw [if_neg (by omega), if_pos (by omega)]
theorem rq_tkE (k : Nat) (h : 12 ≤ k) (h8 : k ≤ 13) : rq_tk k = 0 := by unfold rq_tk; rw [if_neg (by omega), if_neg (by omega), if_neg (by omega)]
theorem rq_tk0 (k : Nat) (h : k < 2) : rq_tk k = 0 := if_pos h
theorem rq_lo_le {K : Nat → Nat} {i b : Nat} (hm : ∀ b c, b ≤ c → c < rq_o K i → rq_fl K i b ≤ rq_fl K i c) (h : b < rq_o K i) : rq_fl K i b ≤ rq_lo K i := by
  unfold rq_lo
  rw [if_neg (by omega)]
  exact hm _ _ (by omega) (by omega)
def rq_ST (K : Nat → Nat) (i : Nat) : Prop :=
  rq_h K i ≤ 6 ∧ rq_o K i ≤ 3 ∧ (∀ b, b < rq_o K i → rq_fl K i b ≤ rq_h K i) ∧ (∀ b c, b ≤ c → c < rq_o K i → rq_fl K i b ≤ rq_fl K i c) ∧
  (∀ b, b < rq_o K i → rq_bg K i b < i ∧ K (rq_bg K i b) = 10 ∧ rq_o K (rq_bg K i b) = b)
theorem rq_st1 {K : Nat → Nat} {a : Nat → Int32} {i : Nat} (hS : rq_ST K i) (hO : rq_Ok K a i) : rq_ST K (i + 1) := by
  obtain ⟨h6, h3, hf, hm, hb⟩ := hS
  obtain ⟨k17, -, -, hl, hE, hP, hR⟩ := hO
  have hlo := @rq_lo_le K i
  by_cases c10 : K i = 10
  · obtain ⟨e1, e2, e3, e4⟩ := rq_s10 c10
    have ho := hR c10
    refine ⟨by omega, by omega, fun b hb1 => ?_, fun b c hbc hc => ?_, fun b hb1 => ?_⟩
    · rw [e3, e1]
      by_cases c : b = rq_o K i
      · rw [if_pos c]; omega
      · rw [if_neg c]; exact hf b (by omega)
    · rw [e3, e3]
      by_cases c1 : c = rq_o K i
      · rw [if_pos c1]
        by_cases c2 : b = rq_o K i
        · rw [if_pos c2]; omega
        · rw [if_neg c2]; exact hf b (by omega)
      · rw [if_neg c1, if_neg (by omega)]
        exact hm b c hbc (by omega)
    · rw [e4]
      by_cases c : b = rq_o K i
      · rw [if_pos c]; exact ⟨by omega, c10, c.symm⟩
      · rw [if_neg c]
        have := hb b (by omega)
        exact ⟨by omega, this.2⟩
  · obtain ⟨e3, e4⟩ := rq_sn c10
    have key : rq_h K (i + 1) ≤ 6 ∧ rq_o K (i + 1) ≤ rq_o K i ∧ rq_lo K i ≤ rq_h K (i + 1) := by
      by_cases c11 : K i = 11
      · obtain ⟨e1, e2⟩ := rq_s11 c11
        have := (hE (by omega)).2
        have t : rq_tk (K i) = 1 := by rw [c11]; decide
        omega
      · by_cases c12 : 12 ≤ K i
        · obtain ⟨e1, e2⟩ := rq_sE c12
          have := (hE (by omega)).2
          have := hP c10 c11
          omega
        · obtain ⟨e1, e2⟩ := rq_sS (show K i ≤ 9 by omega)
          have := hP c10 c11
          omega
    obtain ⟨k1, k2, k3⟩ := key
    refine ⟨k1, by omega, fun b hb1 => ?_, fun b c hbc hc => ?_, fun b hb1 => ?_⟩
    · rw [e3]
      have := hlo hm (show b < rq_o K i by omega)
      omega
    · rw [e3, e3]; exact hm b c hbc (by omega)
    · rw [e4]
      have := hb b (by omega)
      exact ⟨by omega, this.2⟩
theorem rq_st {K : Nat → Nat} {a : Nat → Int32} : ∀ i, (∀ q, q < i → rq_Ok K a q) → rq_ST K i := by
  intro i
  induction i with
  | zero => intro _; exact ⟨Nat.zero_le 6, Nat.zero_le 3, fun b h => absurd h (Nat.not_lt_zero b), fun b c _ h => absurd h (Nat.not_lt_zero c), fun b h => absurd h (Nat.not_lt_zero b)⟩
  | succ i ih => intro h; exact rq_st1 (ih (fun q hq => h q (by omega))) (h i (by omega))
/-- a stretch that stays at d or deeper keeps what the outer blocks are -/
theorem rq_seg {K : Nat → Nat} {i d : Nat} : ∀ m, (∀ q, i ≤ q → q ≤ i + m → d ≤ rq_o K q) → ∀ b, b < d → rq_bg K (i + m) b = rq_bg K i b ∧ rq_fl K (i + m) b = rq_fl K i b := by
  intro m
  induction m with
  | zero => intro _ b _; exact ⟨rfl, rfl⟩
  | succ m ih =>
    intro h b hb
    obtain ⟨e1, e2⟩ := ih (fun q h1 h2 => h q h1 (by omega)) b hb
    have ho := h (i + m) (by omega) (by omega)
    rw [← e1, ← e2, ← Nat.add_assoc]
    by_cases c10 : K (i + m) = 10
    · obtain ⟨-, -, e3, e4⟩ := rq_s10 c10
      rw [e3, e4, if_neg (by omega), if_neg (by omega)]
      exact ⟨rfl, rfl⟩
    · obtain ⟨e3, e4⟩ := rq_sn c10
      exact ⟨e4 b, e3 b⟩
/-- the static shape up to s depends on the kinds below s alone -/
theorem rq_cong {K L : Nat → Nat} : ∀ s, (∀ q, q < s → K q = L q) → rq_h K s = rq_h L s ∧ rq_o K s = rq_o L s ∧ rq_fl K s = rq_fl L s ∧ rq_bg K s = rq_bg L s := by
  intro s
  induction s with
  | zero => intro _; exact ⟨rfl, rfl, rfl, rfl⟩
  | succ s ih =>
    intro h
    obtain ⟨e1, e2, e3, e4⟩ := ih (fun q hq => h q (by omega))
    have e := h s (by omega)
    refine ⟨?_, ?_, ?_, ?_⟩
    · simp only [rq_h, e, e1]
    · simp only [rq_o, e, e2]
    · simp only [rq_fl, e, e1, e2, e3]
    · simp only [rq_bg, e, e2, e4]
theorem rq_okc {K L : Nat → Nat} {a c : Nat → Int32} {i : Nat} (h : ∀ q, q < i + 1 → K q = L q) (ha : a i = c i) (H : rq_Ok K a i) : rq_Ok L c i := by
  obtain ⟨e1, e2, e3, e4⟩ := rq_cong i (fun q hq => h q (by omega))
  have e := h i (by omega)
  unfold rq_Ok rq_lo at H ⊢
  rw [← e, ← e1, ← e2, ← e3, ← ha]
  exact H
end
section
/-! what the program comes to: for every choice of rows ρ (block b at row ρ b) the number in each place of the stack, and whether the row of a block is still in -/
def rq_set (ρ : Nat → Nat) (b r : Nat) : Nat → Nat := fun c => if c = b then r else ρ c
def rq_op (k : Nat) (x y : Int32) : Int32 :=
  if k = 2 then x + y else if k = 3 then x - y else if k = 4 then x * y else if k = 5 then (if y ≤ x then 0 else 1)
  else if k = 6 then (if x = y then 1 else 0) else if k = 7 then (if x = 0 then 0 else if y = 0 then 0 else 1)
  else if k = 8 then (if x = 0 then (if y = 0 then 0 else 1) else 1) else (if x = 0 then 1 else 0)
/-- one more number n, behind vs with the value b so far -/
def rq_ad (k : Nat) (vs : List Int32) (b n : Int32) : Int32 :=
  if k = 14 then b + n else if k = 15 then (if vs = [] then n else if n ≤ b then b else n)
  else if k = 16 then (if vs = [] then n else if b ≤ n then b else n)
  else if k = 17 then (if n ∈ vs then b else b + 1) else b
/-- the value of a list, the last number first -/
def rq_rv (k : Nat) : List Int32 → Int32
  | [] => 0
  | n :: vs => rq_ad k vs (rq_rv k vs) n
def rq_gth (k : Nat) (vs : List Int32) : Int32 :=
  if k = 12 then nI vs.length else if k = 13 then (if vs.length = 0 then 0 else 1) else rq_rv k vs.reverse
def rq_rows (n : Nat) (A : Nat → Bool) : List Nat := (List.range n).filter A
def rq_Vn (N : Nat → Nat) (cl : Nat → Nat → Nat → Int32) (T : Nat → Nat) (k : Nat) (av : Int32) (h o : Nat) (V : Nat → (Nat → Nat) → Int32) (A : Nat → (Nat → Nat) → Bool) : Nat → (Nat → Nat) → Int32 := fun e ρ =>
  if k = 0 then (if e = h then av else V e ρ)
  else if k = 1 then (if e = h then cl (T (av.toNatClampNeg / 3)) (ρ (av.toNatClampNeg / 3)) (av.toNatClampNeg % 3) else V e ρ)
  else if k ≤ 8 then (if e + 2 = h then rq_op k (V (h - 2) ρ) (V (h - 1) ρ) else V e ρ)
  else if k = 9 then (if e + 1 = h then rq_op 9 (V (h - 1) ρ) 0 else V e ρ)
  else if k ≤ 11 then V e ρ
  else if e + rq_tk k = h then rq_gth k ((rq_rows (N (T (o - 1))) (fun r => A (o - 1) (rq_set ρ (o - 1) r))).map (fun r => V (h - 1) (rq_set ρ (o - 1) r))) else V e ρ
def rq_An (k h o : Nat) (V : Nat → (Nat → Nat) → Int32) (A : Nat → (Nat → Nat) → Bool) : Nat → (Nat → Nat) → Bool := fun b ρ =>
  if k = 10 then (if b = o then true else A b ρ)
  else if k = 11 then (if b + 1 = o then (if V (h - 1) ρ = 0 then false else A b ρ) else A b ρ) else A b ρ
def rq_T (K : Nat → Nat) (a : Nat → Int32) (i b : Nat) : Nat := (a (rq_bg K i b)).toNatClampNeg
def rq_S (K : Nat → Nat) (a : Nat → Int32) (N : Nat → Nat) (cl : Nat → Nat → Nat → Int32) : Nat → (Nat → (Nat → Nat) → Int32) × (Nat → (Nat → Nat) → Bool)
  | 0 => (fun _ _ => 0, fun _ _ => true)
  | i + 1 => (rq_Vn N cl (rq_T K a i) (K i) (a i) (rq_h K i) (rq_o K i) (rq_S K a N cl i).1 (rq_S K a N cl i).2, rq_An (K i) (rq_h K i) (rq_o K i) (rq_S K a N cl i).1 (rq_S K a N cl i).2)
def rq_V (K : Nat → Nat) (a : Nat → Int32) (N : Nat → Nat) (cl : Nat → Nat → Nat → Int32) (i : Nat) : Nat → (Nat → Nat) → Int32 := (rq_S K a N cl i).1
def rq_A (K : Nat → Nat) (a : Nat → Int32) (N : Nat → Nat) (cl : Nat → Nat → Nat → Int32) (i : Nat) : Nat → (Nat → Nat) → Bool := (rq_S K a N cl i).2
section
variable {K : Nat → Nat} {a : Nat → Int32} {N : Nat → Nat} {cl : Nat → Nat → Nat → Int32}
theorem rq_Vs (i : Nat) : rq_V K a N cl (i + 1) = rq_Vn N cl (rq_T K a i) (K i) (a i) (rq_h K i) (rq_o K i) (rq_V K a N cl i) (rq_A K a N cl i) := rfl
theorem rq_As (i : Nat) : rq_A K a N cl (i + 1) = rq_An (K i) (rq_h K i) (rq_o K i) (rq_V K a N cl i) (rq_A K a N cl i) := rfl
theorem rq_V0 {i : Nat} (e : K i = 0) (x : Nat) (ρ : Nat → Nat) : rq_V K a N cl (i + 1) x ρ = if x = rq_h K i then a i else rq_V K a N cl i x ρ := by
  rw [rq_Vs]; unfold rq_Vn; rw [if_pos e]
theorem rq_V1 {i : Nat} (e : K i = 1) (x : Nat) (ρ : Nat → Nat) : rq_V K a N cl (i + 1) x ρ = if x = rq_h K i then cl (rq_T K a i ((a i).toNatClampNeg / 3)) (ρ ((a i).toNatClampNeg / 3)) ((a i).toNatClampNeg % 3) else rq_V K a N cl i x ρ := by
  rw [rq_Vs]; unfold rq_Vn; rw [if_neg (by omega), if_pos e]
theorem rq_V2 {i : Nat} (e : 2 ≤ K i) (e8 : K i ≤ 8) (x : Nat) (ρ : Nat → Nat) : rq_V K a N cl (i + 1) x ρ = if x + 2 = rq_h K i then rq_op (K i) (rq_V K a N cl i (rq_h K i - 2) ρ) (rq_V K a N cl i (rq_h K i - 1) ρ) else rq_V K a N cl i x ρ := by
  rw [rq_Vs]; unfold rq_Vn; rw [if_neg (by omega), if_neg (by omega), if_pos e8]
theorem rq_V9 {i : Nat} (e : K i = 9) (x : Nat) (ρ : Nat → Nat) : rq_V K a N cl (i + 1) x ρ = if x + 1 = rq_h K i then rq_op 9 (rq_V K a N cl i (rq_h K i - 1) ρ) 0 else rq_V K a N cl i x ρ := by
  rw [rq_Vs]; unfold rq_Vn; rw [if_neg (by omega), if_neg (by omega), if_neg (by omega), if_pos e]
theorem rq_V11 {i : Nat} (e : K i = 10 ∨ K i = 11) : rq_V K a N cl (i + 1) = rq_V K a N cl i := by
  rw [rq_Vs]; funext x ρ; unfold rq_Vn; rw [if_neg (by omega), if_neg (by omega), if_neg (by omega), if_neg (by omega), if_pos (by omega)]
theorem rq_VE {i : Nat} (e : 12 ≤ K i) (x : Nat) (ρ : Nat → Nat) : rq_V K a N cl (i + 1) x ρ = if x + rq_tk (K i) = rq_h K i then rq_gth (K i) ((rq_rows (N (rq_T K a i (rq_o K i - 1))) (fun r => rq_A K a N cl i (rq_o K i - 1) (rq_set ρ (rq_o K i - 1) r))).map (fun r => rq_V K a N cl i (rq_h K i - 1) (rq_set ρ (rq_o K i - 1) r))) else rq_V K a N cl i x ρ := by
  rw [rq_Vs]; unfold rq_Vn; rw [if_neg (by omega), if_neg (by omega), if_neg (by omega), if_neg (by omega), if_neg (by omega)]
theorem rq_A10 {i : Nat} (e : K i = 10) (b : Nat) (ρ : Nat → Nat) : rq_A K a N cl (i + 1) b ρ = if b = rq_o K i then true else rq_A K a N cl i b ρ := by
  rw [rq_As]; unfold rq_An; rw [if_pos e]
theorem rq_A11 {i : Nat} (e : K i = 11) (b : Nat) (ρ : Nat → Nat) : rq_A K a N cl (i + 1) b ρ = if b + 1 = rq_o K i then (if rq_V K a N cl i (rq_h K i - 1) ρ = 0 then false else rq_A K a N cl i b ρ) else rq_A K a N cl i b ρ := by
  rw [rq_As]; unfold rq_An; rw [if_neg (by omega), if_pos e]
theorem rq_Ae {i : Nat} (e : K i ≠ 10) (e2 : K i ≠ 11) : rq_A K a N cl (i + 1) = rq_A K a N cl i := by
  rw [rq_As]; funext b ρ; unfold rq_An; rw [if_neg e, if_neg e2]
end
/-- depends on the rows of the first d blocks alone -/
def rq_loc {α : Type} (d : Nat) (f : (Nat → Nat) → α) : Prop := ∀ ρ σ : Nat → Nat, (∀ c, c < d → ρ c = σ c) → f ρ = f σ
theorem rq_loc_mono {α : Type} {d d' : Nat} {f : (Nat → Nat) → α} (h : rq_loc d f) (hd : d ≤ d') : rq_loc d' f := fun ρ σ H => h ρ σ (fun c hc => H c (by omega))
theorem rq_set_ag {ρ σ : Nat → Nat} {d r : Nat} (h : ∀ c, c < d → ρ c = σ c) : ∀ c, c < d + 1 → rq_set ρ d r c = rq_set σ d r c := by
  intro c hc
  unfold rq_set
  by_cases e : c = d
  · rw [if_pos e, if_pos e]
  · rw [if_neg e, if_neg e]; exact h c (by omega)
theorem rq_set_o {ρ : Nat → Nat} {d r c : Nat} (h : c ≠ d) : rq_set ρ d r c = ρ c := if_neg h
theorem rq_set_s {ρ : Nat → Nat} {d r : Nat} : rq_set ρ d r d = r := if_pos rfl
theorem rq_set_id {ρ : Nat → Nat} {d : Nat} : rq_set ρ d (ρ d) = ρ := by
  funext c
  by_cases e : c = d
  · rw [e]; exact rq_set_s
  · exact rq_set_o e
theorem rq_loc_set {α : Type} {d d' r : Nat} {f : (Nat → Nat) → α} (h : rq_loc d f) (hd : d ≤ d') (ρ : Nat → Nat) : f (rq_set ρ d' r) = f ρ := h _ _ (fun c hc => rq_set_o (by omega))
def rq_LC (K : Nat → Nat) (i : Nat) (V : Nat → (Nat → Nat) → Int32) (A : Nat → (Nat → Nat) → Bool) : Prop :=
  (∀ d e, d ≤ rq_o K i → e < rq_h K i → (d < rq_o K i → e < rq_fl K i d) → rq_loc d (V e)) ∧ (∀ b, b < rq_o K i → rq_loc (b + 1) (A b))
section
variable {K : Nat → Nat} {a : Nat → Int32} {N : Nat → Nat} {cl : Nat → Nat → Nat → Int32}
theorem rq_lc1 {i : Nat} (hS : rq_ST K i) (hO : rq_Ok K a i) (hL : rq_LC K i (rq_V K a N cl i) (rq_A K a N cl i)) : rq_LC K (i + 1) (rq_V K a N cl (i + 1)) (rq_A K a N cl (i + 1)) := by
  obtain ⟨hV, hA⟩ := hL
  obtain ⟨h6, h3, hf, hm, hb⟩ := hS
  obtain ⟨k17, hC, -, hl, hE, hP, hR⟩ := hO
  have hlo := @rq_lo_le K i
  by_cases c10 : K i = 10
  · obtain ⟨e1, e2, e3, -⟩ := rq_s10 c10
    refine ⟨fun d e hd he hfl => ?_, fun b hb1 => ?_⟩
    · rw [rq_V11 (Or.inl c10)]
      by_cases cd : d = rq_o K i + 1
      · exact rq_loc_mono (hV (rq_o K i) e (by omega) (by omega) (fun z => absurd z (by omega))) (by omega)
      · refine hV d e (by omega) (by omega) (fun z => ?_)
        have := hfl (by omega)
        rw [e3, if_neg (by omega)] at this
        exact this
    · intro ρ σ H
      rw [rq_A10 c10, rq_A10 c10]
      by_cases cb : b = rq_o K i
      · rw [if_pos cb, if_pos cb]
      · rw [if_neg cb, if_neg cb]; exact hA b (by omega) ρ σ H
  · obtain ⟨e3, -⟩ := rq_sn c10
    by_cases c11 : K i = 11
    · obtain ⟨e1, e2⟩ := rq_s11 c11
      have hh := hE (by omega)
      refine ⟨fun d e hd he hfl => ?_, fun b hb1 => ?_⟩
      · rw [rq_V11 (Or.inr c11)]
        refine hV d e (by omega) (by omega) (fun z => ?_)
        have := hfl (by omega)
        rw [e3] at this
        exact this
      · intro ρ σ H
        rw [rq_A11 c11, rq_A11 c11]
        have hb2 := hA b (by omega) ρ σ H
        by_cases cb : b + 1 = rq_o K i
        · have t : rq_tk (K i) = 1 := by rw [c11]; decide
          have := hV (rq_o K i) (rq_h K i - 1) (by omega) (by omega) (fun z => absurd z (by omega)) ρ σ (by rw [← cb]; exact H)
          rw [if_pos cb, if_pos cb, this, hb2]
        · rw [if_neg cb, if_neg cb]; exact hb2
    · have hAA := @rq_Ae K a N cl i c10 c11
      by_cases c12 : 12 ≤ K i
      · obtain ⟨e1, e2⟩ := rq_sE c12
        have hh := hE (by omega)
        refine ⟨fun d e hd he hfl => ?_, fun b hb1 => ?_⟩
        · intro ρ σ H
          rw [rq_VE c12, rq_VE c12]
          by_cases ce : e + rq_tk (K i) = rq_h K i
          · rw [if_pos ce, if_pos ce]
            have hd2 : d = rq_o K i - 1 := by
              refine Nat.le_antisymm (by omega) (Nat.le_of_not_lt (fun z => ?_))
              have := hfl (by omega)
              rw [e3] at this
              have := hlo hm (show d < rq_o K i by omega)
              omega
            have gA : (fun r => rq_A K a N cl i (rq_o K i - 1) (rq_set ρ (rq_o K i - 1) r)) = (fun r => rq_A K a N cl i (rq_o K i - 1) (rq_set σ (rq_o K i - 1) r)) := by
              funext r
              exact hA (rq_o K i - 1) (by omega) _ _ (rq_set_ag (by rw [← hd2]; exact H))
            rw [gA]
            by_cases ck : rq_tk (K i) = 0
            · have ck2 : K i ≤ 13 := Nat.le_of_not_lt (fun z => by rw [rq_tk1 _ z] at ck; omega)
              unfold rq_gth
              by_cases c : K i = 12
              · rw [if_pos c, if_pos c, List.length_map, List.length_map]
              · have c13 : K i = 13 := by omega
                rw [if_neg c, if_neg c, if_pos c13, if_pos c13, List.length_map, List.length_map]
            · have gV : (fun r => rq_V K a N cl i (rq_h K i - 1) (rq_set ρ (rq_o K i - 1) r)) = (fun r => rq_V K a N cl i (rq_h K i - 1) (rq_set σ (rq_o K i - 1) r)) := by
                funext r
                refine hV (rq_o K i) (rq_h K i - 1) (by omega) (by omega) (fun z => absurd z (by omega)) _ _ (fun c hc => ?_)
                exact rq_set_ag (d := rq_o K i - 1) (by rw [← hd2]; exact H) c (by omega)
              rw [gV]
          · rw [if_neg ce, if_neg ce]
            by_cases cd : d < rq_o K (i + 1)
            · have z := hfl cd
              rw [e3] at z
              have := hf d (by omega)
              exact hV d e (by omega) (by omega) (fun _ => z) ρ σ H
            · have hd2 : d = rq_o K i - 1 := by omega
              refine hV d e (by omega) (by omega) (fun _ => ?_) ρ σ H
              have : rq_lo K i = rq_fl K i d := by unfold rq_lo; rw [if_neg (by omega), hd2]
              omega
        · rw [hAA]; exact hA b (by omega)
      · obtain ⟨e1, e2⟩ := rq_sS (show K i ≤ 9 by omega)
        refine ⟨fun d e hd he hfl => ?_, fun b hb1 => by rw [hAA]; exact hA b (by omega)⟩
        have old : ∀ x, x + rq_tk (K i) < rq_h K i + 1 → x < rq_h K i → (d < rq_o K i → x < rq_fl K i d) → rq_loc d (rq_V K a N cl i x) := fun x _ h1 h2 => hV d x (by omega) h1 h2
        have hfl2 : d < rq_o K i → e < rq_fl K i d := fun z => by have := hfl (by omega); rw [e3] at this; exact this
        have top : ∀ x, x < rq_h K i → rq_lo K i ≤ e → rq_loc d (rq_V K a N cl i x) := fun x h1 h2 => hV d x (by omega) h1 (fun z => by
          have := hfl2 z
          have := hlo hm z
          omega)
        intro ρ σ H
        by_cases k0 : K i = 0
        · rw [rq_V0 k0, rq_V0 k0]
          by_cases ce : e = rq_h K i
          · rw [if_pos ce, if_pos ce]
          · rw [if_neg ce, if_neg ce]
            have : rq_tk (K i) = 0 := rq_tk0 _ (by omega)
            exact hV d e (by omega) (by omega) hfl2 ρ σ H
        · by_cases k1 : K i = 1
          · rw [rq_V1 k1, rq_V1 k1]
            have t0 : rq_tk (K i) = 0 := rq_tk0 _ (by omega)
            by_cases ce : e = rq_h K i
            · rw [if_pos ce, if_pos ce]
              obtain ⟨j, hj, ej, hjo⟩ := hC k1
              have hd2 : d = rq_o K i := by
                refine Nat.le_antisymm (by omega) (Nat.le_of_not_lt (fun z => ?_))
                have := hfl2 z
                have := hf d z
                omega
              rw [ej, nI_clamp (by omega), H (j / 3) (by omega)]
            · rw [if_neg ce, if_neg ce]
              exact hV d e (by omega) (by omega) hfl2 ρ σ H
          · by_cases k8 : K i ≤ 8
            · have t2 : rq_tk (K i) = 2 := rq_tk2 _ (by omega) k8
              rw [rq_V2 (by omega) k8, rq_V2 (by omega) k8]
              by_cases ce : e + 2 = rq_h K i
              · rw [if_pos ce, if_pos ce, top (rq_h K i - 2) (by omega) (by omega) ρ σ H, top (rq_h K i - 1) (by omega) (by omega) ρ σ H]
              · rw [if_neg ce, if_neg ce]
                exact hV d e (by omega) (by omega) hfl2 ρ σ H
            · have k9 : K i = 9 := by omega
              have t1 : rq_tk (K i) = 1 := by rw [k9]; decide
              rw [rq_V9 k9, rq_V9 k9]
              by_cases ce : e + 1 = rq_h K i
              · rw [if_pos ce, if_pos ce, top (rq_h K i - 1) (by omega) (by omega) ρ σ H]
              · rw [if_neg ce, if_neg ce]
                exact hV d e (by omega) (by omega) hfl2 ρ σ H
theorem rq_lc : ∀ i, (∀ q, q < i → rq_Ok K a q) → rq_LC K i (rq_V K a N cl i) (rq_A K a N cl i) := by
  intro i
  induction i with
  | zero => intro _; exact ⟨fun _ _ _ h => absurd h (Nat.not_lt_zero _), fun _ h => absurd h (Nat.not_lt_zero _)⟩
  | succ i ih => intro h; exact rq_lc1 (rq_st i (fun q hq => h q (by omega))) (h i (by omega)) (ih (fun q hq => h q (by omega)))
/-- a token changes the stack from the floor of its block on, and rows of its own block alone -/
theorem rq_keep {i : Nat} (hS : rq_ST K i) (hO : rq_Ok K a i) : (∀ d e, d < rq_o K i → e < rq_fl K i d → rq_V K a N cl (i + 1) e = rq_V K a N cl i e) ∧ (∀ b, b + 1 < rq_o K i → rq_A K a N cl (i + 1) b = rq_A K a N cl i b) ∧ (∀ b ρ, b < rq_o K i → rq_A K a N cl (i + 1) b ρ = true → rq_A K a N cl i b ρ = true) := by
  obtain ⟨h6, h3, hf, hm, hb⟩ := hS
  obtain ⟨k17, hC, -, hl, hE, hP, hR⟩ := hO
  have hlo := @rq_lo_le K i
  refine ⟨fun d e hd he => ?_, fun b hb1 => ?_, fun b ρ hb1 => ?_⟩
  · have hle := hlo hm hd
    funext ρ
    by_cases c1 : K i = 10 ∨ K i = 11
    · rw [rq_V11 c1]
    · by_cases c12 : 12 ≤ K i
      · rw [rq_VE c12, if_neg (by omega)]
      · by_cases k0 : K i = 0
        · rw [rq_V0 k0, if_neg (by omega)]
        · by_cases k1 : K i = 1
          · rw [rq_V1 k1, if_neg (by omega)]
          · by_cases k8 : K i ≤ 8
            · have t2 : rq_tk (K i) = 2 := rq_tk2 _ (by omega) k8
              rw [rq_V2 (by omega) k8, if_neg (by omega)]
            · have k9 : K i = 9 := by omega
              have t1 : rq_tk (K i) = 1 := by rw [k9]; decide
              rw [rq_V9 k9, if_neg (by omega)]
  · funext ρ
    by_cases c10 : K i = 10
    · rw [rq_A10 c10, if_neg (by omega)]
    · by_cases c11 : K i = 11
      · rw [rq_A11 c11, if_neg (by omega)]
      · rw [rq_Ae c10 c11]
  · by_cases c10 : K i = 10
    · rw [rq_A10 c10, if_neg (by omega)]; exact id
    · by_cases c11 : K i = 11
      · rw [rq_A11 c11]
        by_cases cb : b + 1 = rq_o K i
        · rw [if_pos cb]
          by_cases cv : rq_V K a N cl i (rq_h K i - 1) ρ = 0
          · rw [if_pos cv]; exact fun z => absurd z (by decide)
          · rw [if_neg cv]; exact id
        · rw [if_neg cb]; exact id
      · rw [rq_Ae c10 c11]; exact id
theorem rq_segV {i d : Nat} : ∀ m, (∀ q, q < i + m → rq_Ok K a q) → (∀ q, i ≤ q → q ≤ i + m → d < rq_o K q) → (∀ e, e < rq_fl K i d → rq_V K a N cl (i + m) e = rq_V K a N cl i e) ∧ (∀ b, b < d → rq_A K a N cl (i + m) b = rq_A K a N cl i b) := by
  intro m
  induction m with
  | zero => intro _ _; exact ⟨fun _ _ => rfl, fun _ _ => rfl⟩
  | succ m ih =>
    intro hW h
    obtain ⟨i1, i2⟩ := ih (fun q hq => hW q (by omega)) (fun q h1 h2 => h q h1 (by omega))
    obtain ⟨k1, k2, -⟩ := @rq_keep K a N cl (i + m) (rq_st _ (fun q hq => hW q (by omega))) (hW _ (by omega))
    have ho := h (i + m) (by omega) (by omega)
    refine ⟨fun e he => ?_, fun b hb => ?_⟩
    · have hs := (rq_seg (K := K) (i := i) (d := d + 1) m (fun q h1 h2 => h q h1 (by omega)) d (by omega)).2
      exact (k1 d e ho (by rw [hs]; exact he)).trans (i1 e he)
    · exact (k2 b (by omega)).trans (i2 b hb)
theorem rq_segA {i d : Nat} : ∀ m, (∀ q, q < i + m → rq_Ok K a q) → (∀ q, i ≤ q → q ≤ i + m → d ≤ rq_o K q) → (∀ b ρ, b < d → rq_A K a N cl (i + m) b ρ = true → rq_A K a N cl i b ρ = true) := by
  intro m
  induction m with
  | zero => intro _ _ b ρ _; exact id
  | succ m ih =>
    intro hW h b ρ hb H
    obtain ⟨-, -, k3⟩ := @rq_keep K a N cl (i + m) (rq_st _ (fun q hq => hW q (by omega))) (hW _ (by omega))
    have ho := h (i + m) (by omega) (by omega)
    exact ih (fun q hq => hW q (by omega)) (fun q h1 h2 => h q h1 (by omega)) b ρ hb (k3 b ρ (by omega) H)
end
end
section
/-! sums over the rows that are in -/
def rq_sum : Nat → (Nat → Nat) → Nat
  | 0, _ => 0
  | n + 1, f => rq_sum n f + f n
theorem rq_sum_c {f g : Nat → Nat} : ∀ n, (∀ r, r < n → f r = g r) → rq_sum n f = rq_sum n g := by
  intro n
  induction n with
  | zero => intro _; rfl
  | succ n ih => intro h; show rq_sum n f + f n = rq_sum n g + g n; rw [ih (fun r hr => h r (by omega)), h n (by omega)]
theorem rq_sum_0 : ∀ n, rq_sum n (fun _ => 0) = 0 := by
  intro n
  induction n with
  | zero => rfl
  | succ n ih => show rq_sum n _ + 0 = 0; rw [ih]
theorem rq_sum_add (f g : Nat → Nat) : ∀ n, rq_sum n (fun r => f r + g r) = rq_sum n f + rq_sum n g := by
  intro n
  induction n with
  | zero => rfl
  | succ n ih => show rq_sum n _ + (f n + g n) = (rq_sum n f + f n) + (rq_sum n g + g n); rw [ih]; omega
theorem rq_sum_comm (f : Nat → Nat → Nat) (m : Nat) : ∀ n, rq_sum n (fun r => rq_sum m (fun q => f r q)) = rq_sum m (fun q => rq_sum n (fun r => f r q)) := by
  intro n
  induction n with
  | zero => exact (rq_sum_0 m).symm
  | succ n ih => show rq_sum n _ + rq_sum m (fun q => f n q) = rq_sum m (fun q => rq_sum n (fun r => f r q) + f n q); rw [ih, rq_sum_add]
theorem rq_sum_if (c : Prop) (hc : Decidable c) (f : Nat → Nat) (n : Nat) : rq_sum n (fun r => if c then f r else 0) = if c then rq_sum n f else 0 := by
  by_cases h : c
  · rw [if_pos h]; exact rq_sum_c n (fun r _ => if_pos h)
  · rw [if_neg h]; exact (rq_sum_c n (fun r _ => if_neg h)).trans (rq_sum_0 n)
/-- one index alone counts -/
theorem rq_sum_1 (k c : Nat) : ∀ n, rq_sum n (fun r => if r = k then c else 0) = if k < n then c else 0 := by
  intro n
  induction n with
  | zero => rfl
  | succ n ih =>
    show rq_sum n _ + (if n = k then c else 0) = _
    rw [ih]
    by_cases h : n = k
    · rw [if_pos h, if_neg (by omega), if_pos (by omega)]; omega
    · rw [if_neg h]
      by_cases h2 : k < n
      · rw [if_pos h2, if_pos (by omega)]; omega
      · rw [if_neg h2, if_neg (by omega)]
def rq_SM (N T : Nat → Nat) (A : Nat → (Nat → Nat) → Bool) : Nat → Nat → (Nat → Nat) → ((Nat → Nat) → Nat) → Nat
  | 0, _, ρ, F => F ρ
  | m + 1, k, ρ, F => rq_sum (N (T k)) (fun r => if A k (rq_set ρ k r) = true then rq_SM N T A m (k + 1) (rq_set ρ k r) F else 0)
section
variable {N T : Nat → Nat} {A : Nat → (Nat → Nat) → Bool}
theorem rq_SM_s : ∀ m k (ρ : Nat → Nat) (F : (Nat → Nat) → Nat), rq_SM N T A (m + 1) k ρ F = rq_SM N T A m k ρ (fun σ => rq_sum (N (T (k + m))) (fun r => if A (k + m) (rq_set σ (k + m) r) = true then F (rq_set σ (k + m) r) else 0)) := by
  intro m
  induction m with
  | zero => intro k ρ F; rfl
  | succ m ih =>
    intro k ρ F
    show rq_sum (N (T k)) (fun r => if A k (rq_set ρ k r) = true then rq_SM N T A (m + 1) (k + 1) (rq_set ρ k r) F else 0) = rq_sum (N (T k)) (fun r => if A k (rq_set ρ k r) = true then rq_SM N T A m (k + 1) (rq_set ρ k r) _ else 0)
    refine rq_sum_c _ (fun r _ => ?_)
    rw [ih, show k + 1 + m = k + (m + 1) by omega]
theorem rq_SM_c : ∀ m k (ρ : Nat → Nat) (F G : (Nat → Nat) → Nat), (∀ b, b < k + m → rq_loc (b + 1) (A b)) → (∀ σ : Nat → Nat, (∀ b, b < k → σ b = ρ b) → (∀ b, k ≤ b → b < k + m → σ b < N (T b) ∧ A b σ = true) → F σ = G σ) → rq_SM N T A m k ρ F = rq_SM N T A m k ρ G := by
  intro m
  induction m with
  | zero => intro k ρ F G _ h; exact h ρ (fun _ _ => rfl) (fun b h1 h2 => absurd h2 (by omega))
  | succ m ih =>
    intro k ρ F G hA h
    refine rq_sum_c _ (fun r hr => ?_)
    by_cases c : A k (rq_set ρ k r) = true
    · rw [if_pos c, if_pos c]
      refine ih (k + 1) (rq_set ρ k r) F G (fun b hb => hA b (by omega)) (fun σ h1 h2 => ?_)
      refine h σ (fun b hb => (h1 b (by omega)).trans (rq_set_o (by omega))) (fun b hb1 hb2 => ?_)
      by_cases e : b = k
      · rw [e]
        refine ⟨by rw [h1 k (by omega), rq_set_s]; exact hr, ?_⟩
        rw [hA k (by omega) σ (rq_set ρ k r) h1]
        exact c
      · exact h2 b (by omega) (by omega)
    · rw [if_neg c, if_neg c]
theorem rq_SM_a {T' : Nat → Nat} {A' : Nat → (Nat → Nat) → Bool} : ∀ m k (ρ : Nat → Nat) (F : (Nat → Nat) → Nat), (∀ b, k ≤ b → b < k + m → T b = T' b ∧ A b = A' b) → rq_SM N T A m k ρ F = rq_SM N T' A' m k ρ F := by
  intro m
  induction m with
  | zero => intro k ρ F _; rfl
  | succ m ih =>
    intro k ρ F h
    obtain ⟨e1, e2⟩ := h k (by omega) (by omega)
    show rq_sum (N (T k)) (fun r => if A k (rq_set ρ k r) = true then rq_SM N T A m (k + 1) (rq_set ρ k r) F else 0) = rq_sum (N (T' k)) (fun r => if A' k (rq_set ρ k r) = true then rq_SM N T' A' m (k + 1) (rq_set ρ k r) F else 0)
    rw [e1, e2]
    refine rq_sum_c _ (fun r _ => ?_)
    rw [ih (k + 1) _ F (fun b h1 h2 => h b (by omega) (by omega))]
theorem rq_SM_0 : ∀ m k (ρ : Nat → Nat), rq_SM N T A m k ρ (fun _ => 0) = 0 := by
  intro m
  induction m with
  | zero => intro k ρ; rfl
  | succ m ih =>
    intro k ρ
    show rq_sum _ _ = 0
    refine (rq_sum_c _ (fun r _ => ?_)).trans (rq_sum_0 _)
    rw [ih]
    split <;> rfl
theorem rq_SM_if (c : Prop) (hc : Decidable c) (m k : Nat) (ρ : Nat → Nat) (F : (Nat → Nat) → Nat) : (if c then rq_SM N T A m k ρ F else 0) = rq_SM N T A m k ρ (fun σ => if c then F σ else 0) := by
  by_cases h : c
  · rw [if_pos h]; exact congrArg _ (funext fun σ => (if_pos h).symm)
  · rw [if_neg h]; exact (rq_SM_0 m k ρ).symm.trans (congrArg _ (funext fun σ => (if_neg h).symm))
theorem rq_SM_sum (L : Nat) : ∀ m k (ρ : Nat → Nat) (F : Nat → (Nat → Nat) → Nat), rq_sum L (fun l => rq_SM N T A m k ρ (F l)) = rq_SM N T A m k ρ (fun σ => rq_sum L (fun l => F l σ)) := by
  intro m
  induction m with
  | zero => intro k ρ F; rfl
  | succ m ih =>
    intro k ρ F
    show rq_sum L (fun l => rq_sum (N (T k)) (fun r => if A k (rq_set ρ k r) = true then rq_SM N T A m (k + 1) (rq_set ρ k r) (F l) else 0)) = rq_sum (N (T k)) (fun r => if A k (rq_set ρ k r) = true then rq_SM N T A m (k + 1) (rq_set ρ k r) _ else 0)
    rw [rq_sum_comm]
    refine rq_sum_c _ (fun r _ => ?_)
    rw [rq_sum_if, ih]
end
/-- how often token p is reached -/
def rq_TM (K : Nat → Nat) (a : Nat → Int32) (N : Nat → Nat) (cl : Nat → Nat → Nat → Int32) (p : Nat) : Nat := rq_SM N (rq_T K a p) (rq_A K a N cl p) (rq_o K p) 0 (fun _ => 0) (fun _ => 1)
/-- the rows of the first l blocks are in -/
def rq_Al (N T : Nat → Nat) (A : Nat → (Nat → Nat) → Bool) (l : Nat) (ρ : Nat → Nat) : Prop := ∀ b, b < l → ρ b < N (T b) ∧ A b ρ = true
end
section
/-! the reference's walk, method by method -/
theorem rq_ne {k c : Nat} (h : k ≠ c) (hk : k < 2 ^ 31) (hc : c < 2 ^ 31) : ¬ nI k = nI c := fun z => h ((nI_eq hk hc).mp z)
theorem rq_k18 {k : Nat} (h : k ≤ 17) : k = 0 ∨ k = 1 ∨ k = 2 ∨ k = 3 ∨ k = 4 ∨ k = 5 ∨ k = 6 ∨ k = 7 ∨ k = 8 ∨ k = 9 ∨ k = 10 ∨ k = 11 ∨ k = 12 ∨ k = 13 ∨ k = 14 ∨ k = 15 ∨ k = 16 ∨ k = 17 := by omega
section
variable {sz yh yo tp sT sR yd : Int32} {rc ce kd ar fr st yt be rA fo va se : Nat → Int32}
theorem ry_takes {post : Int32 → Prop} {k : Nat} (hk : k ≤ 17) (h : post (nI (rq_tk k))) : wpY_takes post (sz, yh, yo, tp, sT, sR, yd, rc, ce, kd, ar, fr, st, yt, be, rA, fo, va, se) (nI k) := by
  have c := rq_k18 hk
  unfold wpY_takes wY_takes_13
  dsimp only
  rcases c with rfl | rfl | rfl | rfl | rfl | rfl | rfl | rfl | rfl | rfl | rfl | rfl | rfl | rfl | rfl | rfl | rfl | rfl <;> ((repeat (first | refine br_t (by decide) ?_ | refine br_f (by decide) ?_)); exact h)
theorem ry_isEnd {post : Int32 → Prop} {k : Nat} (hk : k < 2 ^ 31) (h1 : 12 ≤ k → post 1) (h0 : k < 12 → post 0) : wpY_isEnd post (sz, yh, yo, tp, sT, sR, yd, rc, ce, kd, ar, fr, st, yt, be, rA, fo, va, se) (nI k) := by
  unfold wpY_isEnd
  exact pk_lt k 12 h0 h1
theorem ry_push {post : SY → Prop} {t : Nat} (ht : t < 8) (x : Int32) (h : post (sz, yh, yo, nI (t + 1), sT, sR, yd, rc, ce, kd, ar, fr, upd st t x, yt, be, rA, fo, va, se)) : wpY_push post (sz, yh, yo, nI t, sT, sR, yd, rc, ce, kd, ar, fr, st, yt, be, rA, fo, va, se) x := by
  unfold wpY_push
  exact ⟨vp_in_nI ht (by decide), nm_r (e' := upd st t x) (by rw [nI_clamp (by omega)]) (nm_r (nI_1 t) h)⟩
theorem ry_chk {post : SY → Prop} {K : Nat → Nat} {s : Nat} (hs : s ≤ 48) (hk : ∀ i, i < s → kd i = nI (K i)) (hW : rq_WF K ar s) (hp : ∀ fr' : Nat → Int32, (∀ b, b < rq_o K s → fr' b = nI (rq_fl K s b)) → post (nI s, nI (rq_h K s), nI (rq_o K s), tp, sT, sR, yd, rc, ce, kd, ar, fr', st, yt, be, rA, fo, va, se)) : ∀ m i, i + m = s → ∀ n, m < n → ∀ fr : Nat → Int32, (∀ b, b < rq_o K i → fr b = nI (rq_fl K i b)) → wY_check_12 post (nI s) tp sT sR yd n (nI i) (nI (rq_h K i)) (nI (rq_o K i)) rc ce kd ar fr st yt be rA fo va se := by
  intro m
  induction m with
  | zero =>
    intro i hi n hn fr hf
    obtain ⟨n, rfl⟩ : ∃ n', n = n' + 1 := ⟨n - 1, by omega⟩
    have e : i = s := by omega
    subst e
    exact br_t (Int32.le_refl _) (hp fr hf)
  | succ m ih =>
    intro i hi n hn fr hf
    obtain ⟨n, rfl⟩ : ∃ n', n = n' + 1 := ⟨n - 1, by omega⟩
    have hO := hW i (by omega)
    obtain ⟨h6, h3, hfl, hm, hb⟩ := rq_st (a := ar) i (fun q hq => hW q (by omega))
    have nx := ih (i + 1) (by omega) n (by omega)
    have hk17 := hO.1
    have hlt := hO.2.2.2.1
    refine br_f (nI_ge (by omega) (by omega)) ⟨vp_in_nI (by omega) (by decide), nm_r (e' := nI (K i)) (by rw [nI_clamp (by omega), hk i (by omega)]) ?_⟩
    refine ry_takes hO.1 (nm_r (pk_sub (by omega)) ?_)
    by_cases c10 : K i = 10
    · obtain ⟨e1, e2, e3, -⟩ := rq_s10 c10
      have ho := hO.2.2.2.2.2.2 c10
      have t0 : rq_tk (K i) = 0 := by rw [c10]; decide
      have e0 : rq_h K i - rq_tk (K i) = rq_h K i := by omega
      refine br_t (by rw [c10]; rfl) ⟨vp_in_nI ho (by decide), nm_r (e' := upd fr (rq_o K i) (nI (rq_h K i))) (by rw [nI_clamp (by omega), e0]) (nm_r (nI_1 _) (nm_r (nI_1 _) ?_))⟩
      rw [e0]
      rw [e1, e2] at nx
      refine nx _ (fun b hb1 => ?_)
      rw [e3]
      by_cases cb : b = rq_o K i
      · rw [if_pos cb, cb]; exact pk_us
      · rw [if_neg cb, pk_un cb]; exact hf b (by omega)
    · obtain ⟨e3, -⟩ := rq_sn c10
      refine br_f (rq_ne (c := 10) c10 (by omega) (by decide)) ?_
      by_cases c11 : K i = 11
      · obtain ⟨e1, e2⟩ := rq_s11 c11
        have t0 : rq_tk (K i) = 1 := by rw [c11]; decide
        refine br_t (by rw [c11]; rfl) (nm_r (nI_1 _) ?_)
        rw [e1, e2] at nx
        rw [t0]
        exact nx _ (fun b hb1 => by rw [e3]; exact hf b hb1)
      · refine br_f (rq_ne (c := 11) c11 (by omega) (by decide)) (ry_isEnd (by omega) (fun c12 => ?_) (fun c12 => ?_))
        · obtain ⟨e1, e2⟩ := rq_sE c12
          have ho := (hO.2.2.2.2.1 (by omega)).1
          refine br_f (by decide) ?_
          unfold wY_check_101
          refine nm_r (nI_1 _) (nm_r (nI_1 _) ?_)
          rw [e1, e2] at nx
          have e5 : nI (rq_o K i) - 1 = nI (rq_o K i - 1) := pk_sub (b := 1) (by omega)
          rw [e5]
          exact nx _ (fun b hb1 => by rw [e3]; exact hf b (by omega))
        · obtain ⟨e1, e2⟩ := rq_sS (show K i ≤ 9 by omega)
          refine br_t rfl ?_
          unfold wY_check_101
          refine nm_r (nI_1 _) (nm_r (nI_1 _) ?_)
          rw [e1, e2] at nx
          exact nx _ (fun b hb1 => by rw [e3]; exact hf b (by omega))
theorem ry_check {post : SY → Prop} {K : Nat → Nat} {s : Nat} (hs : s ≤ 48) (hk : ∀ i, i < s → kd i = nI (K i)) (hW : rq_WF K ar s) (hp : ∀ fr' : Nat → Int32, (∀ b, b < rq_o K s → fr' b = nI (rq_fl K s b)) → post (nI s, nI (rq_h K s), nI (rq_o K s), tp, sT, sR, yd, rc, ce, kd, ar, fr', st, yt, be, rA, fo, va, se)) : wpY_check post (nI s, yh, yo, tp, sT, sR, yd, rc, ce, kd, ar, fr, st, yt, be, rA, fo, va, se) := by
  unfold wpY_check
  exact ⟨s + 1, ry_chk hs hk hW hp s 0 (by omega) (s + 1) (by omega) fr (fun b hb => absurd hb (Nat.not_lt_zero b))⟩
theorem ry_whole {post : Int32 → SY → Prop} {K : Nat → Nat} {s : Nat} (hs : s ≤ 48) (hk : ∀ i, i < s → kd i = nI (K i)) (hW : rq_WF K ar s) (hp : ∀ fr' : Nat → Int32, post (if rq_o K s = 0 ∧ rq_h K s = 1 then 1 else 0) (nI s, nI (rq_h K s), nI (rq_o K s), tp, sT, sR, yd, rc, ce, kd, ar, fr', st, yt, be, rA, fo, va, se)) : wpY_whole post (nI s, yh, yo, tp, sT, sR, yd, rc, ce, kd, ar, fr, st, yt, be, rA, fo, va, se) := by
  unfold wpY_whole
  obtain ⟨h6, h3, -, -, -⟩ := rq_st (a := ar) s (fun q hq => hW q (by omega))
  refine ry_check hs hk hW (fun fr' _ => ?_)
  refine pk_eq (rq_o K s) 0 (fun c => ?_) (fun c => ?_)
  · refine pk_eq (rq_h K s) 1 (fun c2 => ?_) (fun c2 => ?_)
    · have := hp fr'; rw [if_pos ⟨c, c2⟩] at this; exact this
    · have := hp fr'; rw [if_neg (fun z => c2 z.2)] at this; exact this
  · have := hp fr'; rw [if_neg (fun z => c z.1)] at this; exact this
/-! one step -/
theorem ry_step0 {post : Int32 → SY → Prop} {i k t w : Nat} (hi : i < 48) (ek : kd i = nI k) (hk : k ≤ 17) (h10 : k ≠ 10) (ht : t < 8) (hw : w = t + rq_tk k) (h : wY_step_64 post (nI i) (nI k) (if rq_tk k = 0 then 0 else st t) sz yh yo (nI t) sT sR yd rc ce kd ar fr st (upd yt i (yt i + 1)) be rA fo va se) : wpY_step post (sz, yh, yo, nI w, sT, sR, yd, rc, ce, kd, ar, fr, st, yt, be, rA, fo, va, se) (nI i) := by
  have tb : rq_tk k ≤ 2 := by unfold rq_tk; repeat' (first | omega | split)
  unfold wpY_step
  refine ⟨vp_in_nI hi (by decide), nm_r (e' := nI k) (by rw [nI_clamp (by omega), ek]) ⟨vp_in_nI hi (by decide), vp_in_nI hi (by decide), nm_r (e' := upd yt i (yt i + 1)) (by rw [nI_clamp (by omega)]) ?_⟩⟩
  refine br_f (rq_ne (c := 10) h10 (by omega) (by decide)) ?_
  have e0 : w - rq_tk k = t := by omega
  refine ry_takes hk (nm_r (e' := nI t) (by rw [pk_sub (by omega), e0]) ?_)
  refine ry_takes hk ?_
  by_cases c : rq_tk k = 0
  · rw [if_pos c] at h
    exact br_t (show nI (rq_tk k) ≤ 0 by rw [c]; exact Int32.le_refl _) h
  · rw [if_neg c] at h
    refine br_f (nI_nle (by omega) (by omega)) ⟨vp_in_nI ht (by decide), ?_⟩
    rw [nI_clamp (by omega)]
    exact h
theorem ry_s0 {post : Int32 → SY → Prop} {i t : Nat} (hi : i < 48) (ek : kd i = nI 0) (ht : t < 8) (h : post (nI (i + 1)) (sz, yh, yo, nI (t + 1), sT, sR, yd, rc, ce, kd, ar, fr, upd st t (ar i), upd yt i (yt i + 1), be, rA, fo, va, se)) : wpY_step post (sz, yh, yo, nI t, sT, sR, yd, rc, ce, kd, ar, fr, st, yt, be, rA, fo, va, se) (nI i) := by
  refine ry_step0 (k := 0) (t := t) hi ek (by decide) (by decide) ht (by rw [show rq_tk 0 = 0 from rfl]; rfl) ?_
  unfold wY_step_64
  rw [nI_clamp (n := i) (by omega), nI_1 i]
  exact br_t rfl ⟨vp_in_nI hi (by decide), ry_push ht _ h⟩
theorem ry_cell {post : Int32 → Prop} {j g t r : Nat} (hj : j ≤ 8) (hb : be (j / 3) = nI g) (hg : g < 48) (ha : ar g = nI t) (ht : t < 3) (hr : rA (j / 3) = nI r) (hr6 : r < 6) (h : post (ce (18 * t + 3 * r + j % 3))) : wpY_cellAtHand post (sz, yh, yo, tp, sT, sR, yd, rc, ce, kd, ar, fr, st, yt, be, rA, fo, va, se) (nI j) := by
  unfold wpY_cellAtHand
  have e1 : nI j / 3 = nI (j / 3) := pk_div (d := 3) (by omega) (by decide) (by decide)
  have e2 : nI j - nI j / 3 * 3 = nI (j % 3) := pk_rem (d := 3) (by omega) (by decide) (by decide)
  have e3 : (nI (j / 3)).toNatClampNeg = j / 3 := nI_clamp (by omega)
  have e4 : (nI g).toNatClampNeg = g := nI_clamp (by omega)
  have e5 : 18 * nI t + 3 * nI r + nI (j % 3) = nI (18 * t + 3 * r + j % 3) := by
    rw [show (18 : Int32) = nI 18 from rfl, show (3 : Int32) = nI 3 from rfl, pk_mul, pk_mul, nI_add, nI_add]
  refine ⟨by decide, nm_r e1 ?_⟩
  rw [e2, e3, hb, e4, ha, hr, e5, nI_clamp (by omega)]
  exact ⟨vp_in_nI (by omega) (by decide), vp_in_nI (by omega) (by decide), vp_in_nI (by omega) (by decide), by decide, vp_in_nI (by omega) (by decide), h⟩
theorem ry_s1 {post : Int32 → SY → Prop} {i w j g t r : Nat} (hi : i < 48) (ek : kd i = nI 1) (hw : w < 8) (ej : ar i = nI j) (hj : j ≤ 8) (hb : be (j / 3) = nI g) (hg : g < 48) (ha : ar g = nI t) (ht : t < 3) (hr : rA (j / 3) = nI r) (hr6 : r < 6) (h : post (nI (i + 1)) (sz, yh, yo, nI (w + 1), sT, sR, yd, rc, ce, kd, ar, fr, upd st w (ce (18 * t + 3 * r + j % 3)), upd yt i (yt i + 1), be, rA, fo, va, se)) : wpY_step post (sz, yh, yo, nI w, sT, sR, yd, rc, ce, kd, ar, fr, st, yt, be, rA, fo, va, se) (nI i) := by
  refine ry_step0 (k := 1) (t := w) hi ek (by decide) (by decide) hw (by rw [show rq_tk 1 = 0 from rfl]; rfl) ?_
  unfold wY_step_64
  rw [nI_clamp (n := i) (by omega), nI_1 i, ej]
  exact br_f (by decide) (br_t rfl ⟨vp_in_nI hi (by decide), ry_cell hj hb hg ha ht hr hr6 (ry_push hw _ h)⟩)
theorem ry_joined {post : Int32 → Prop} {k : Nat} (h2 : 2 ≤ k) (h8 : k ≤ 8) (x y : Int32) (h : post (rq_op k x y)) : wpY_joined post (sz, yh, yo, tp, sT, sR, yd, rc, ce, kd, ar, fr, st, yt, be, rA, fo, va, se) (nI k) x y := by
  have c : k = 2 ∨ k = 3 ∨ k = 4 ∨ k = 5 ∨ k = 6 ∨ k = 7 ∨ k = 8 := by omega
  unfold wpY_joined
  dsimp only
  rcases c with rfl | rfl | rfl | rfl | rfl | rfl | rfl
  · (repeat (first | refine br_t (by decide) ?_ | refine br_f (by decide) ?_))
    exact h
  · (repeat (first | refine br_t (by decide) ?_ | refine br_f (by decide) ?_))
    exact h
  · (repeat (first | refine br_t (by decide) ?_ | refine br_f (by decide) ?_))
    exact h
  · (repeat (first | refine br_t (by decide) ?_ | refine br_f (by decide) ?_))
    have h' : post (if y ≤ x then 0 else 1) := h
    exact br_c (fun c => by rw [if_pos c] at h'; exact h') (fun c => by rw [if_neg c] at h'; exact h')
  · (repeat (first | refine br_t (by decide) ?_ | refine br_f (by decide) ?_))
    have h' : post (if x = y then 1 else 0) := h
    exact br_c (fun c => by rw [if_pos c] at h'; exact h') (fun c => by rw [if_neg c] at h'; exact h')
  · (repeat (first | refine br_t (by decide) ?_ | refine br_f (by decide) ?_))
    have h' : post (if x = 0 then 0 else if y = 0 then 0 else 1) := h
    exact br_c (fun c => by rw [if_pos c] at h'; exact h') (fun c => by
      rw [if_neg c] at h'
      exact br_c (fun c => by rw [if_pos c] at h'; exact h') (fun c => by rw [if_neg c] at h'; exact h'))
  · (repeat (first | refine br_t (by decide) ?_ | refine br_f (by decide) ?_))
    have h' : post (if x = 0 then (if y = 0 then 0 else 1) else 1) := h
    exact br_c (fun c => by
      rw [if_pos c] at h'
      exact br_c (fun c => by rw [if_pos c] at h'; exact h') (fun c => by rw [if_neg c] at h'; exact h')) (fun c => by rw [if_neg c] at h'; exact h')
theorem ry_s2 {post : Int32 → SY → Prop} {i k t w : Nat} (hi : i < 48) (ek : kd i = nI k) (h2 : 2 ≤ k) (h8 : k ≤ 8) (ht : t + 2 ≤ 8) (hw : w = t + 2) (h : post (nI (i + 1)) (sz, yh, yo, nI (t + 1), sT, sR, yd, rc, ce, kd, ar, fr, upd st t (rq_op k (st t) (st (t + 1))), upd yt i (yt i + 1), be, rA, fo, va, se)) : wpY_step post (sz, yh, yo, nI w, sT, sR, yd, rc, ce, kd, ar, fr, st, yt, be, rA, fo, va, se) (nI i) := by
  have t2 := rq_tk2 k h2 h8
  refine ry_step0 (t := t) hi ek (by omega) (by omega) (by omega) (by rw [t2]; exact hw) ?_
  unfold wY_step_64
  rw [if_neg (by omega), nI_1 i, nI_1 t, nI_clamp (n := t + 1) (by omega)]
  exact br_f (rq_ne (c := 0) (by omega) (by omega) (by decide)) (br_f (rq_ne (c := 1) (by omega) (by omega) (by decide)) (br_f (nI_ge (b := 9) (by omega) (by decide)) ⟨vp_in_nI (by omega) (by decide), ry_joined h2 h8 _ _ (ry_push (by omega) _ h)⟩))
theorem ry_s9 {post : Int32 → SY → Prop} {i t w : Nat} (hi : i < 48) (ek : kd i = nI 9) (ht : t < 8) (hw : w = t + 1) (h : post (nI (i + 1)) (sz, yh, yo, nI (t + 1), sT, sR, yd, rc, ce, kd, ar, fr, upd st t (rq_op 9 (st t) 0), upd yt i (yt i + 1), be, rA, fo, va, se)) : wpY_step post (sz, yh, yo, nI w, sT, sR, yd, rc, ce, kd, ar, fr, st, yt, be, rA, fo, va, se) (nI i) := by
  refine ry_step0 (k := 9) (t := t) hi ek (by decide) (by decide) ht hw ?_
  unfold wY_step_64 wY_step_158
  rw [if_neg (by decide), nI_1 i]
  have e : rq_op 9 (st t) 0 = if st t = 0 then 1 else 0 := rfl
  rw [e] at h
  exact br_f (by decide) (br_f (by decide) (br_t (by decide) (br_t rfl (br_c (fun c => by rw [if_pos c] at h; exact ry_push ht _ h) (fun c => by rw [if_neg c] at h; exact ry_push ht _ h)))))
theorem ry_s11 {post : Int32 → SY → Prop} {i t w : Nat} (hi : i < 48) (ek : kd i = nI 11) (ht : t < 8) (hw : w = t + 1) (hz : st t ≠ 0) (h : post (nI (i + 1)) (sz, yh, yo, nI t, sT, sR, yd, rc, ce, kd, ar, fr, st, upd yt i (yt i + 1), be, rA, fo, va, se)) : wpY_step post (sz, yh, yo, nI w, sT, sR, yd, rc, ce, kd, ar, fr, st, yt, be, rA, fo, va, se) (nI i) := by
  refine ry_step0 (k := 11) (t := t) hi ek (by decide) (by decide) ht hw ?_
  unfold wY_step_64
  rw [if_neg (by decide), nI_1 i]
  exact br_f (by decide) (br_f (by decide) (br_t (by decide) (br_f (by decide) (br_t rfl (br_f hz h)))))
def ry_NR (v : SY) (i' : Nat) (v' : SY) : Prop := ∀ post : Int32 → SY → Prop, post (nI i') v' → wpY_nextRow post v
theorem ry_s11n {i t w i' : Nat} {v' : SY} (hi : i < 48) (ek : kd i = nI 11) (ht : t < 8) (hw : w = t + 1) (hz : st t = 0) (hn : ry_NR (sz, yh, yo, nI t, sT, sR, yd, rc, ce, kd, ar, fr, st, upd yt i (yt i + 1), be, rA, fo, va, se) i' v') (post : Int32 → SY → Prop) (h : post (nI i') v') : wpY_step post (sz, yh, yo, nI w, sT, sR, yd, rc, ce, kd, ar, fr, st, yt, be, rA, fo, va, se) (nI i) := by
  refine ry_step0 (k := 11) (t := t) hi ek (by decide) (by decide) ht hw ?_
  unfold wY_step_64
  rw [if_neg (by decide), nI_1 i]
  exact br_f (by decide) (br_f (by decide) (br_t (by decide) (br_f (by decide) (br_t rfl (br_t hz (hn _ h))))))
theorem ry_sE {i t w k i' : Nat} {v' : SY} {fo' va' se' : Nat → Int32} (hi : i < 48) (ek : kd i = nI k) (hk : 12 ≤ k) (h17 : k ≤ 17) (ht : t < 8) (hw : w = t + rq_tk k)
    (hT : ∀ post : SY → Prop, post (sz, yh, yo, nI t, sT, sR, yd, rc, ce, kd, ar, fr, st, upd yt i (yt i + 1), be, rA, fo', va', se') → wpY_takeRow post (sz, yh, yo, nI t, sT, sR, yd, rc, ce, kd, ar, fr, st, upd yt i (yt i + 1), be, rA, fo, va, se) (nI k) (if rq_tk k = 0 then 0 else st t))
    (hn : ry_NR (sz, yh, yo, nI t, sT, sR, yd, rc, ce, kd, ar, fr, st, upd yt i (yt i + 1), be, rA, fo', va', se') i' v') (post : Int32 → SY → Prop) (h : post (nI i') v') : wpY_step post (sz, yh, yo, nI w, sT, sR, yd, rc, ce, kd, ar, fr, st, yt, be, rA, fo, va, se) (nI i) := by
  refine ry_step0 (k := k) (t := t) hi ek (by omega) (by omega) ht hw ?_
  unfold wY_step_64
  exact br_f (rq_ne (c := 0) (by omega) (by omega) (by decide)) (br_f (rq_ne (c := 1) (by omega) (by omega) (by decide)) (br_t (nI_le (a := 9) (by omega) (by omega)) (br_f (rq_ne (c := 9) (by omega) (by omega) (by decide)) (br_f (rq_ne (c := 11) (by omega) (by omega) (by decide)) (hT _ (hn _ h))))))
theorem ry_s10 {i d i' : Nat} {v' : SY} (hi : i < 48) (ek : kd i = nI 10) (hd : d < 3)
    (hn : ry_NR (sz, yh, yo, tp, sT, sR, nI (d + 1), rc, ce, kd, ar, fr, st, upd yt i (yt i + 1), upd be d (nI i), upd rA d (-1), upd fo d 0, upd va d 0, se) i' v') (post : Int32 → SY → Prop) (h : post (nI i') v') : wpY_step post (sz, yh, yo, tp, sT, sR, nI d, rc, ce, kd, ar, fr, st, yt, be, rA, fo, va, se) (nI i) := by
  unfold wpY_step
  refine ⟨vp_in_nI hi (by decide), nm_r (e' := nI 10) (by rw [nI_clamp (by omega), ek]) ⟨vp_in_nI hi (by decide), vp_in_nI hi (by decide), nm_r (e' := upd yt i (yt i + 1)) (by rw [nI_clamp (by omega)]) (br_t rfl ?_)⟩⟩
  unfold wpY_beginRows
  have hc : (nI d).toNatClampNeg = d := nI_clamp (by omega)
  have hv : vp_in (nI d) 3 := vp_in_nI hd (by decide)
  dsimp only
  rw [hc]
  exact ⟨hv, nm_e ⟨hv, nm_e ⟨hv, nm_e ⟨hv, nm_e (nm_r (nI_1 d) (hn _ h))⟩⟩⟩⟩
end
end
section
/-! the reference: taking a row in, the next row, the end of a block -/
/-- what block b has gathered: vs, the last number first -/
def ry_AC (k b : Nat) (vs : List Int32) (fo va se : Nat → Int32) : Prop :=
  fo b = nI vs.length ∧ (14 ≤ k → va b = rq_rv k vs) ∧ (k = 17 → ∃ m, m ≤ vs.length ∧ va b = nI m ∧ ∀ x, x ∈ vs ↔ ∃ j, j < m ∧ se (6 * b + j) = x)
/-- the blocks below b keep what they have gathered -/
def ry_same (b : Nat) (fo va se fo' va' se' : Nat → Int32) : Prop := ∀ c, c < b → fo' c = fo c ∧ va' c = va c ∧ ∀ j, j < 6 → se' (6 * c + j) = se (6 * c + j)
theorem ry_same_rf {b : Nat} {fo va se : Nat → Int32} : ry_same b fo va se fo va se := fun _ _ => ⟨rfl, rfl, fun _ _ => rfl⟩
theorem ry_same_tr {b b' : Nat} {fo va se fo' va' se' fo2 va2 se2 : Nat → Int32} (h : ry_same b fo va se fo' va' se') (h' : ry_same b' fo' va' se' fo2 va2 se2) (hb : b ≤ b') : ry_same b fo va se fo2 va2 se2 := fun c hc =>
  have a := h c hc
  have a' := h' c (by omega)
  ⟨a'.1.trans a.1, a'.2.1.trans a.2.1, fun j hj => (a'.2.2 j hj).trans (a.2.2 j hj)⟩
section
variable {sz yh yo tp sT sR yd : Int32} {rc ce kd ar fr st yt be rA fo va se : Nat → Int32}
theorem ry_207 {post : SY → Prop} {b : Nat} (hb : b < 3) (h : post (sz, yh, yo, tp, sT, sR, yd, rc, ce, kd, ar, fr, st, yt, be, rA, upd fo b (fo b + 1), va, se)) : wY_takeRow_207 post (nI b) sz yh yo tp sT sR yd rc ce kd ar fr st yt be rA fo va se := by
  unfold wY_takeRow_207
  have hv : vp_in (nI b) 3 := vp_in_nI hb (by decide)
  rw [nI_clamp (n := b) (by omega)]
  exact ⟨hv, hv, nm_e h⟩
theorem ry_70 {post : SY → Prop} {b : Nat} (hb : b < 3) (z : Int32) (h : post (sz, yh, yo, tp, sT, sR, yd, rc, ce, kd, ar, fr, st, yt, be, rA, upd fo b (fo b + 1), upd va b z, se)) : wY_takeRow_70 post (nI b) z (nI b) sz yh yo tp sT sR yd rc ce kd ar fr st yt be rA fo va se := by
  unfold wY_takeRow_70
  have hv : vp_in (nI b) 3 := vp_in_nI hb (by decide)
  rw [nI_clamp (n := b) (by omega)]
  exact ⟨hv, nm_e (ry_207 hb h)⟩
theorem ry_114 {post : SY → Prop} {b : Nat} (hb : b < 3) (z : Int32) (h : post (sz, yh, yo, tp, sT, sR, yd, rc, ce, kd, ar, fr, st, yt, be, rA, upd fo b (fo b + 1), upd va b z, se)) : wY_takeRow_114 post (nI b) z (nI b) sz yh yo tp sT sR yd rc ce kd ar fr st yt be rA fo va se := by
  unfold wY_takeRow_114
  have hv : vp_in (nI b) 3 := vp_in_nI hb (by decide)
  rw [nI_clamp (n := b) (by omega)]
  exact ⟨hv, nm_e (ry_207 hb h)⟩
theorem ry_130a {post : SY → Prop} {b m : Nat} (x : Int32) (hb : b < 3) (hm : m ≤ 6) (hv : va b = nI m) (h : post (sz, yh, yo, tp, sT, sR, yd, rc, ce, kd, ar, fr, st, yt, be, rA, upd fo b (fo b + 1), va, se)) : ∀ d j, j + d = m → ∀ n, d < n → wY_takeRow_130 post x (nI b) sz yh yo tp sT sR yd rc ce kd ar fr st yt be rA fo va se n 0 (nI j) := by
  intro d
  have hi : vp_in (nI b) 3 := vp_in_nI hb (by decide)
  have hc : (nI b).toNatClampNeg = b := nI_clamp (by omega)
  induction d with
  | zero =>
    intro j hj n hn
    obtain ⟨n, rfl⟩ : ∃ n', n = n' + 1 := ⟨n - 1, by omega⟩
    exact ⟨hi, br_t (by rw [hc, hv]; exact nI_le (by omega) (by omega)) (br_t rfl (ry_207 hb h))⟩
  | succ d ih =>
    intro j hj n hn
    obtain ⟨n, rfl⟩ : ∃ n', n = n' + 1 := ⟨n - 1, by omega⟩
    exact ⟨hi, br_f (by rw [hc, hv]; exact nI_ge (by omega) (by omega)) (br_t rfl (nm_r (nI_1 j) (ih (j + 1) (by omega) n (by omega))))⟩
theorem ry_130b {post : SY → Prop} {b m : Nat} (x : Int32) (hb : b < 3) (hm : m ≤ 5) (hv : va b = nI m) (h0 : (∃ j, j < m ∧ se (6 * b + j) = x) → post (sz, yh, yo, tp, sT, sR, yd, rc, ce, kd, ar, fr, st, yt, be, rA, upd fo b (fo b + 1), va, se)) (h1 : (¬ ∃ j, j < m ∧ se (6 * b + j) = x) → post (sz, yh, yo, tp, sT, sR, yd, rc, ce, kd, ar, fr, st, yt, be, rA, upd fo b (fo b + 1), upd va b (nI (m + 1)), upd se (6 * b + m) x)) : ∀ d j, j + d = m → (∀ q, q < j → se (6 * b + q) ≠ x) → ∀ n, d < n → wY_takeRow_130 post x (nI b) sz yh yo tp sT sR yd rc ce kd ar fr st yt be rA fo va se n 1 (nI j) := by
  intro d
  have hi : vp_in (nI b) 3 := vp_in_nI hb (by decide)
  have hc : (nI b).toNatClampNeg = b := nI_clamp (by omega)
  have e6 : ∀ q, 6 * nI b + nI q = nI (6 * b + q) := fun q => by rw [show (6 : Int32) = nI 6 from rfl, pk_mul, nI_add]
  induction d with
  | zero =>
    intro j hj hq n hn
    obtain ⟨n, rfl⟩ : ∃ n', n = n' + 1 := ⟨n - 1, by omega⟩
    have ej : j = m := by omega
    have hno : ¬ ∃ j, j < m ∧ se (6 * b + j) = x := fun ⟨q, hq1, hq2⟩ => hq q (by omega) hq2
    have hx := h1 hno
    refine ⟨hi, br_t (by rw [hc, hv]; exact nI_le (by omega) (by omega)) (br_f (by decide) ⟨hi, ?_⟩)⟩
    rw [hc, hv, e6, nI_clamp (n := 6 * b + m) (by omega), nI_1 m]
    exact ⟨vp_in_nI (by omega) (by decide), nm_e ⟨hi, hi, nm_e (ry_207 hb hx)⟩⟩
  | succ d ih =>
    intro j hj hq n hn
    obtain ⟨n, rfl⟩ : ∃ n', n = n' + 1 := ⟨n - 1, by omega⟩
    refine ⟨hi, br_f (by rw [hc, hv]; exact nI_ge (by omega) (by omega)) (br_f (by decide) ?_)⟩
    rw [e6, nI_clamp (n := 6 * b + j) (by omega)]
    refine ⟨vp_in_nI (by omega) (by decide), br_c (fun c => nm_r (nI_1 j) ?_) (fun c => nm_r (nI_1 j) ?_)⟩
    · exact ry_130a x hb (by omega) hv (h0 ⟨j, by omega, c⟩) d (j + 1) (by omega) n (by omega)
    · refine ih (j + 1) (by omega) (fun q hq1 => ?_) n (by omega)
      by_cases e : q = j
      · rw [e]; exact c
      · exact hq q (by omega)
theorem ry_take {k b : Nat} {vs : List Int32} (x : Int32) (hb : b < 3) (hk : 12 ≤ k) (h17 : k ≤ 17) (hv : vs.length ≤ 5) (hA : ry_AC k b vs fo va se) : ∃ fo' va' se' : Nat → Int32, ry_AC k b (x :: vs) fo' va' se' ∧ ry_same b fo va se fo' va' se' ∧ ∀ post : SY → Prop, post (sz, yh, yo, tp, sT, sR, nI (b + 1), rc, ce, kd, ar, fr, st, yt, be, rA, fo', va', se') → wpY_takeRow post (sz, yh, yo, tp, sT, sR, nI (b + 1), rc, ce, kd, ar, fr, st, yt, be, rA, fo, va, se) (nI k) x := by
  obtain ⟨a1, a2, a3⟩ := hA
  have hi : vp_in (nI b) 3 := vp_in_nI hb (by decide)
  have hc : (nI b).toNatClampNeg = b := nI_clamp (by omega)
  have ef : upd fo b (fo b + 1) b = nI (x :: vs).length := by rw [pk_us, a1, nI_1]; rfl
  have sm : ∀ va' se' : Nat → Int32, (∀ c, c < b → va' c = va c) → (∀ c j, c < b → j < 6 → se' (6 * c + j) = se (6 * c + j)) → ry_same b fo va se (upd fo b (fo b + 1)) va' se' := fun va' se' h1 h2 c hc => ⟨pk_un (by omega), h1 c hc, fun j hj => h2 c j hc hj⟩
  have c : k = 12 ∨ k = 13 ∨ k = 14 ∨ k = 15 ∨ k = 16 ∨ k = 17 := by omega
  have fo0 : fo b = 0 ↔ vs = [] := by
    rw [a1]
    constructor
    · intro z
      have := (nI_eq (b := 0) (by omega) (by decide)).mp z
      exact List.eq_nil_of_length_eq_zero this
    · intro z; rw [z]; rfl
  unfold wpY_takeRow
  rcases c with rfl | rfl | rfl | rfl | rfl | rfl
  · refine ⟨_, va, se, ⟨ef, fun z => absurd z (by decide), fun z => absurd z (by decide)⟩, sm _ _ (fun _ _ => rfl) (fun _ _ _ _ => rfl), fun post h => nm_r (nI_pred b) ?_⟩
    (repeat (first | refine br_t (by decide) ?_ | refine br_f (by decide) ?_))
    exact ry_207 hb h
  · refine ⟨_, va, se, ⟨ef, fun z => absurd z (by decide), fun z => absurd z (by decide)⟩, sm _ _ (fun _ _ => rfl) (fun _ _ _ _ => rfl), fun post h => nm_r (nI_pred b) ?_⟩
    (repeat (first | refine br_t (by decide) ?_ | refine br_f (by decide) ?_))
    exact ry_207 hb h
  · have e := a2 (by decide)
    refine ⟨_, upd va b (va b + x), se, ⟨ef, fun z => ?_, fun z => absurd z (by decide)⟩, sm _ _ (fun c hc => pk_un (by omega)) (fun _ _ _ _ => rfl), fun post h => nm_r (nI_pred b) ?_⟩
    · rw [pk_us, e]; rfl
    · refine br_t rfl ?_
      rw [hc]
      exact ⟨hi, hi, nm_e (ry_207 hb h)⟩
  · have e := a2 (by decide)
    have e2 : rq_rv 15 (x :: vs) = if vs = [] then x else if x ≤ rq_rv 15 vs then rq_rv 15 vs else x := rfl
    refine ⟨_, upd va b (rq_rv 15 (x :: vs)), se, ⟨ef, fun z => pk_us, fun z => absurd z (by decide)⟩, sm _ _ (fun c hc => pk_un (by omega)) (fun _ _ _ _ => rfl), fun post h => nm_r (nI_pred b) ?_⟩
    refine br_f (by decide) (br_t rfl ?_)
    rw [hc]
    rw [e2] at h
    refine ⟨hi, br_c (fun c => ?_) (fun c => ⟨hi, br_c (fun c2 => ⟨hi, ?_⟩) (fun c2 => ?_)⟩)⟩
    · rw [if_pos (fo0.mp c)] at h
      exact ry_70 hb _ h
    · rw [if_neg (fun z => c (fo0.mpr z)), if_pos (by rw [← e]; exact c2), ← e] at h
      exact ry_70 hb _ h
    · rw [if_neg (fun z => c (fo0.mpr z)), if_neg (by rw [← e]; exact c2)] at h
      exact ry_70 hb _ h
  · have e := a2 (by decide)
    have e2 : rq_rv 16 (x :: vs) = if vs = [] then x else if rq_rv 16 vs ≤ x then rq_rv 16 vs else x := rfl
    refine ⟨_, upd va b (rq_rv 16 (x :: vs)), se, ⟨ef, fun z => pk_us, fun z => absurd z (by decide)⟩, sm _ _ (fun c hc => pk_un (by omega)) (fun _ _ _ _ => rfl), fun post h => nm_r (nI_pred b) ?_⟩
    refine br_f (by decide) (br_f (by decide) (br_t rfl ?_))
    rw [hc]
    rw [e2] at h
    refine ⟨hi, br_c (fun c => ?_) (fun c => ⟨hi, br_c (fun c2 => ⟨hi, ?_⟩) (fun c2 => ?_)⟩)⟩
    · rw [if_pos (fo0.mp c)] at h
      exact ry_114 hb _ h
    · rw [if_neg (fun z => c (fo0.mpr z)), if_pos (by rw [← e]; exact c2), ← e] at h
      exact ry_114 hb _ h
    · rw [if_neg (fun z => c (fo0.mpr z)), if_neg (by rw [← e]; exact c2)] at h
      exact ry_114 hb _ h
  · have e := a2 (by decide)
    obtain ⟨m, hm, em, hmem⟩ := a3 rfl
    have e2 : rq_rv 17 (x :: vs) = if x ∈ vs then rq_rv 17 vs else rq_rv 17 vs + 1 := rfl
    by_cases cx : x ∈ vs
    · refine ⟨_, va, se, ⟨ef, fun z => by rw [e2, if_pos cx]; exact e, fun _ => ⟨m, by rw [List.length_cons]; omega, em, fun y => ?_⟩⟩, sm _ _ (fun _ _ => rfl) (fun _ _ _ _ => rfl), fun post h => nm_r (nI_pred b) ?_⟩
      · rw [List.mem_cons, ← hmem y]
        exact ⟨fun z => z.elim (fun z => by rw [z]; exact cx) id, Or.inr⟩
      · refine br_f (by decide) (br_f (by decide) (br_f (by decide) (br_t rfl ⟨m + 1, ?_⟩)))
        exact ry_130b x hb (by omega) em (fun _ => h) (fun z => absurd ((hmem x).mp cx) z) m 0 (by omega) (fun q hq => absurd hq (Nat.not_lt_zero q)) (m + 1) (by omega)
    · refine ⟨_, upd va b (nI (m + 1)), upd se (6 * b + m) x, ⟨ef, fun z => ?_, fun _ => ⟨m + 1, by rw [List.length_cons]; omega, pk_us, fun y => ?_⟩⟩, sm _ _ (fun c hc => pk_un (by omega)) (fun c j hc hj => pk_un (by omega)), fun post h => nm_r (nI_pred b) ?_⟩
      · rw [pk_us, e2, if_neg cx, ← e, em, nI_1]
      · rw [List.mem_cons, hmem y]
        constructor
        · rintro (z | ⟨j, hj, ej⟩)
          · exact ⟨m, by omega, by rw [pk_us, z]⟩
          · exact ⟨j, by omega, by rw [pk_un (by omega)]; exact ej⟩
        · rintro ⟨j, hj, ej⟩
          by_cases c : j = m
          · rw [c, pk_us] at ej; exact Or.inl ej.symm
          · rw [pk_un (by omega)] at ej; exact Or.inr ⟨j, by omega, ej⟩
      · refine br_f (by decide) (br_f (by decide) (br_f (by decide) (br_t rfl ⟨m + 1, ?_⟩)))
        exact ry_130b x hb (by omega) em (fun z => absurd ((hmem x).mpr z) cx) (fun _ => h) m 0 (by omega) (fun q hq => absurd hq (Nat.not_lt_zero q)) (m + 1) (by omega)
/-- the first row from q on that is not passed over -/
def ry_RF (sT sR : Int32) (t q : Nat) : Nat := if nI t = sT then (if nI q = sR then q + 1 else q) else q
theorem ry_rowFrom {post : Int32 → Prop} {t q : Nat} (h : post (nI (ry_RF sT sR t q))) : wpY_rowFrom post (sz, yh, yo, tp, sT, sR, yd, rc, ce, kd, ar, fr, st, yt, be, rA, fo, va, se) (nI t) (nI q) := by
  unfold wpY_rowFrom
  unfold ry_RF at h
  refine br_c (fun c => br_c (fun c2 => ?_) (fun c2 => ?_)) (fun c => ?_)
  · rw [if_pos c, if_pos c2] at h; rw [nI_1]; exact h
  · rw [if_pos c, if_neg c2] at h; exact h
  · rw [if_neg c] at h; exact h
theorem ry_next {b g t q M r : Nat} (hb : b < 3) (eb : be b = nI g) (hg : g < 48) (ea : ar g = nI t) (ht : t < 3) (er : rA b + 1 = nI q) (eM : rc t = nI M) (hM : M ≤ 6) (eR : ry_RF sT sR t q = r) (hr : r < M) : ry_NR (sz, yh, yo, tp, sT, sR, nI (b + 1), rc, ce, kd, ar, fr, st, yt, be, rA, fo, va, se) (g + 1) (sz, yh, yo, tp, sT, sR, nI (b + 1), rc, ce, kd, ar, fr, st, yt, be, upd rA b (nI r), fo, va, se) := by
  intro post h
  unfold wpY_nextRow
  have hi : vp_in (nI b) 3 := vp_in_nI hb (by decide)
  have hc : (nI b).toNatClampNeg = b := nI_clamp (by omega)
  have hg1 : vp_in (nI g) 48 := vp_in_nI hg (by decide)
  refine nm_r (nI_pred b) ⟨hi, nm_r (e' := nI g) (by rw [hc, eb]) ⟨hg1, hi, ?_⟩⟩
  rw [hc, nI_clamp (n := g) (by omega), ea, er, nI_clamp (n := t) (by omega), eM]
  refine ry_rowFrom ?_
  rw [eR]
  refine ⟨hi, nm_e ⟨hi, hg1, vp_in_nI ht (by decide), ?_⟩⟩
  rw [pk_us, nI_1 g]
  exact br_f (nI_ge hr (by omega)) h
theorem ry_endOf {post : Int32 → Prop} {K : Nat → Nat} {s i e d : Nat} (hs : s ≤ 48) (hk : ∀ q, q < s → kd q = nI (K q)) (h17 : ∀ q, q < s → K q ≤ 17 ∧ rq_o K q ≤ 3) (hie : i < e) (hes : e < s) (hK : 12 ≤ K e) (ho : rq_o K e = d + 1) (h10 : K i = 10) (hoi : rq_o K i = d) (hq : ∀ q, i < q → q ≤ e → d + 1 ≤ rq_o K q) (hp : post (nI e)) : wpY_endOf post (nI s, yh, yo, tp, sT, sR, yd, rc, ce, kd, ar, fr, st, yt, be, rA, fo, va, se) (nI i) := by
  have L : ∀ m q, q + m = e → i < q → ∀ n, m < n → wY_endOf_6 post (nI s) yh yo tp sT sR yd rc ce kd ar fr st yt be rA fo va se n (nI (rq_o K q - (d + 1))) (nI q) := by
    intro m
    induction m with
    | zero =>
      intro q hqm hiq n hn
      obtain ⟨n, rfl⟩ : ∃ n', n = n' + 1 := ⟨n - 1, by omega⟩
      have eq : q = e := by omega
      subst eq
      refine br_f (nI_ge (by omega) (by omega)) ⟨vp_in_nI (by omega) (by decide), ?_⟩
      rw [nI_clamp (n := q) (by omega), hk q hes]
      refine ry_isEnd (by have := (h17 q hes).1; omega) (fun _ => br_f (by decide) (br_t ?_ hp)) (fun z => absurd hK (by omega))
      rw [ho, Nat.sub_self]; rfl
    | succ m ih =>
      intro q hqm hiq n hn
      obtain ⟨n, rfl⟩ : ∃ n', n = n' + 1 := ⟨n - 1, by omega⟩
      have a0 := h17 q (by omega)
      have a1 := hq q (by omega) (by omega)
      have a2 := hq (q + 1) (by omega) (by omega)
      have nx := ih (q + 1) (by omega) (by omega) n (by omega)
      have hv : vp_in (nI q) 48 := vp_in_nI (by omega) (by decide)
      refine br_f (nI_ge (by omega) (by omega)) ⟨hv, ?_⟩
      unfold wY_endOf_33
      rw [nI_clamp (n := q) (by omega), hk q (by omega)]
      refine ry_isEnd (by omega) (fun c => br_f (by decide) ?_) (fun c => br_t rfl ⟨hv, ?_⟩)
      · obtain ⟨-, e2⟩ := rq_sE c
        refine br_f (rq_ne (c := 0) (by omega) (by omega) (by decide)) ⟨hv, br_f (rq_ne (c := 10) (by omega) (by omega) (by decide)) ⟨hv, ?_⟩⟩
        refine ry_isEnd (by omega) (fun _ => br_f (by decide) (nm_r (e' := nI (rq_o K (q + 1) - (d + 1))) ?_ (nm_r (nI_1 q) nx))) (fun z => absurd c (by omega))
        rw [show rq_o K q - (d + 1) = (rq_o K (q + 1) - (d + 1)) + 1 by omega]
        exact nI_pred _
      · by_cases c10 : K q = 10
        · obtain ⟨-, e2, -, -⟩ := rq_s10 c10
          refine br_t (by rw [c10]; rfl) (nm_r (e' := nI (rq_o K (q + 1) - (d + 1))) ?_ (nm_r (nI_1 q) nx))
          rw [nI_1]; exact congrArg nI (by omega)
        · have e2 : rq_o K (q + 1) = rq_o K q := by
            by_cases c11 : K q = 11
            · exact (rq_s11 c11).2
            · exact (rq_sS (by omega)).2
          refine br_f (rq_ne (c := 10) c10 (by omega) (by decide)) ⟨hv, ry_isEnd (by omega) (fun z => absurd c (by omega)) (fun _ => br_t rfl (nm_r (nI_1 q) ?_))⟩
          rw [← e2]; exact nx
  unfold wpY_endOf
  refine nm_r (nI_1 i) ⟨e + 1, ?_⟩
  have := L (e - (i + 1)) (i + 1) (by omega) (by omega) (e + 1) (by omega)
  obtain ⟨-, e2, -, -⟩ := rq_s10 h10
  rw [e2, hoi, Nat.sub_self] at this
  exact this
theorem ry_nextE {K : Nat → Nat} {b g t q M r s e w k : Nat} (hs : s ≤ 48) (hk : ∀ q, q < s → kd q = nI (K q)) (h17 : ∀ q, q < s → K q ≤ 17 ∧ rq_o K q ≤ 3) (hge : g < e) (hes : e < s) (hK : 12 ≤ K e) (ho : rq_o K e = b + 1) (h10 : K g = 10) (hog : rq_o K g = b) (hq : ∀ q, g < q → q ≤ e → b + 1 ≤ rq_o K q)
    (hb : b < 3) (eb : be b = nI g) (ea : ar g = nI t) (ht : t < 3) (er : rA b + 1 = nI q) (eM : rc t = nI M) (hM : M ≤ 6) (eR : ry_RF sT sR t q = r) (hr : M ≤ r) (hr2 : r < 100) (hw : w < 8) (ef : fo b = nI k) (hk2 : k < 100) :
    ry_NR (nI s, yh, yo, nI w, sT, sR, nI (b + 1), rc, ce, kd, ar, fr, st, yt, be, rA, fo, va, se) (e + 1) (nI s, yh, yo, nI (w + 1), sT, sR, nI b, rc, ce, kd, ar, fr, upd st w (if K e = 12 then nI k else if K e = 13 then (if k = 0 then 0 else 1) else va b), yt, be, upd rA b (nI r), fo, va, se) := by
  intro post h
  unfold wpY_nextRow
  have hi : vp_in (nI b) 3 := vp_in_nI hb (by decide)
  have hc : (nI b).toNatClampNeg = b := nI_clamp (by omega)
  have hg1 : vp_in (nI g) 48 := vp_in_nI (by omega) (by decide)
  have he1 : vp_in (nI e) 48 := vp_in_nI (by omega) (by decide)
  have hKe := (h17 e hes).1
  refine nm_r (nI_pred b) ⟨hi, nm_r (e' := nI g) (by rw [hc, eb]) ⟨hg1, hi, ?_⟩⟩
  rw [hc, nI_clamp (n := g) (by omega), ea, er, nI_clamp (n := t) (by omega), eM]
  refine ry_rowFrom ?_
  rw [eR]
  refine ⟨hi, nm_e ⟨hi, hg1, vp_in_nI ht (by decide), ?_⟩⟩
  rw [pk_us]
  refine br_t (nI_le hr (by omega)) (ry_endOf hs hk h17 hge hes hK ho h10 hog hq (nm_r (nI_pred b) ⟨he1, ?_⟩))
  unfold wY_nextRow_128
  rw [nI_clamp (n := e) (by omega), hk e hes, ef, nI_1 e]
  by_cases c12 : K e = 12
  · rw [if_pos c12] at h
    exact br_t (by rw [c12]; rfl) ⟨hi, ry_push hw _ h⟩
  · rw [if_neg c12] at h
    refine br_f (rq_ne (c := 12) c12 (by omega) (by decide)) ⟨he1, ?_⟩
    by_cases c13 : K e = 13
    · rw [if_pos c13] at h
      refine br_t (by rw [c13]; rfl) ⟨hi, ?_⟩
      unfold wpY_least
      by_cases k0 : k = 0
      · rw [if_pos k0] at h
        exact br_t (by rw [k0]; exact Int32.le_refl _) (ry_push hw _ h)
      · rw [if_neg k0] at h
        exact br_f (nI_nle (by omega) (by omega)) (ry_push hw _ h)
    · rw [if_neg c13] at h
      exact br_f (rq_ne (c := 13) c13 (by omega) (by decide)) ⟨hi, ry_push hw _ h⟩
end
end
section
/-! the reference's run: stretches of it -/
section
variable {yh yo sT sR : Int32} {rc ce kd ar fr : Nat → Int32} {K N M : Nat → Nat} {cl : Nat → Nat → Nat → Int32} {ph : Nat → Nat → Nat} {s : Nat}
def ry_W (post : SY → Prop) (f i t : Nat) (v : SY) : Prop := match v with
  | (sz, yh, yo, tp, sT, sR, yd, rc, ce, kd, ar, fr, st, yt, be, rA, fo, va, se) => wY_work_46 post f (nI i) (nI t) sz yh yo tp sT sR yd rc ce kd ar fr st yt be rA fo va se
def ry_Go (n i : Nat) (v : SY) (i' : Nat) (v' : SY) : Prop := ∀ (post : SY → Prop) (t : Nat), t + n ≤ 30000 → ry_W post (30001 - (t + n)) i' (t + n) v' → ry_W post (30001 - t) i t v
theorem ry_Go_rf {i : Nat} {v : SY} : ry_Go 0 i v i v := fun _ _ _ h => h
theorem ry_Go_tr {n m i j k : Nat} {v w x : SY} (h1 : ry_Go n i v j w) (h2 : ry_Go m j w k x) : ry_Go (n + m) i v k x := fun post t ht h => by
  refine h1 post t (by omega) (h2 post (t + n) (by omega) ?_)
  rw [show t + n + m = t + (n + m) by omega]
  exact h
theorem ry_Go_1 {tp yd : Int32} {st yt be rA fo va se : Nat → Int32} {i i' : Nat} {v' : SY} (hi : i < s) (hs : s ≤ 48) (h : ∀ post : Int32 → SY → Prop, post (nI i') v' → wpY_step post (nI s, yh, yo, tp, sT, sR, yd, rc, ce, kd, ar, fr, st, yt, be, rA, fo, va, se) (nI i)) : ry_Go 1 i (nI s, yh, yo, tp, sT, sR, yd, rc, ce, kd, ar, fr, st, yt, be, rA, fo, va, se) i' v' := fun post t ht hw => by
  obtain ⟨w1, w2, w3, w4, w5, w6, w7, w8, w9, w10, w11, w12, w13, w14, w15, w16, w17, w18, w19⟩ := v'
  show wY_work_46 post (30001 - t) (nI i) (nI t) (nI s) yh yo tp sT sR yd rc ce kd ar fr st yt be rA fo va se
  rw [show 30001 - t = (30001 - (t + 1)) + 1 by omega]
  exact br_f (nI_ge (b := 30000) (by omega) (by decide)) (br_f (nI_ge hi (by omega)) (h _ (nm_r (nI_1 t) hw)))
/-- what the run rests on -/
def ry_H (K N M : Nat → Nat) (cl : Nat → Nat → Nat → Int32) (ph : Nat → Nat → Nat) (s : Nat) (sT sR : Int32) (rc ce kd ar : Nat → Int32) : Prop :=
  s ≤ 48 ∧ (∀ q, q < s → kd q = nI (K q)) ∧ rq_WF K ar s ∧ (∀ t, t < 3 → rc t = nI (M t) ∧ M t ≤ 6 ∧ N t ≤ 6) ∧
  (∀ t, t < 3 → ry_RF sT sR t 0 = ph t 0) ∧ (∀ t r, t < 3 → r < N t → ry_RF sT sR t (ph t r + 1) = ph t (r + 1)) ∧
  (∀ t r, t < 3 → r < N t → ph t r < M t) ∧ (∀ t, t < 3 → M t ≤ ph t (N t) ∧ ph t (N t) < 100) ∧
  (∀ t r c, t < 3 → r < N t → c < 3 → ce (18 * t + 3 * ph t r + c) = cl t r c)
def ry_Cf (yh yo sT sR : Int32) (rc ce kd ar fr : Nat → Int32) (K N : Nat → Nat) (cl : Nat → Nat → Nat → Int32) (ph : Nat → Nat → Nat) (s i : Nat) (ρ : Nat → Nat) (yt fo va se : Nat → Int32) (v : SY) : Prop :=
  ∃ st be rA : Nat → Int32, v = (nI s, yh, yo, nI (rq_h K i), sT, sR, nI (rq_o K i), rc, ce, kd, ar, fr, st, yt, be, rA, fo, va, se) ∧ (∀ e, e < rq_h K i → st e = rq_V K ar N cl i e ρ) ∧
    (∀ b, b < rq_o K i → be b = nI (rq_bg K i b) ∧ rA b = nI (ph (rq_T K ar i b) (ρ b)))
def ry_Pn (yh yo sT sR : Int32) (rc ce kd ar fr : Nat → Int32) (K N : Nat → Nat) (cl : Nat → Nat → Nat → Int32) (ph : Nat → Nat → Nat) (s i d : Nat) (ρ : Nat → Nat) (q : Nat) (yt fo va se : Nat → Int32) (v : SY) : Prop :=
  ∃ st be rA : Nat → Int32, v = (nI s, yh, yo, nI (rq_fl K i d), sT, sR, nI (d + 1), rc, ce, kd, ar, fr, st, yt, be, rA, fo, va, se) ∧ (∀ e, e < rq_fl K i d → st e = rq_V K ar N cl i e ρ) ∧
    (∀ b, b < d + 1 → be b = nI (rq_bg K i b)) ∧ (∀ b, b < d → rA b = nI (ph (rq_T K ar i b) (ρ b))) ∧ rA d + 1 = nI q
/-- how often token p is reached from a row choice of the first d blocks -/
def ry_R (K : Nat → Nat) (a : Nat → Int32) (N : Nat → Nat) (cl : Nat → Nat → Nat → Int32) (p d : Nat) (ρ : Nat → Nat) : Nat :=
  if d = 0 ∨ rq_A K a N cl p (d - 1) ρ = true then rq_SM N (rq_T K a p) (rq_A K a N cl p) (rq_o K p - d) d ρ (fun _ => 1) else 0
def ry_ti (K : Nat → Nat) (a : Nat → Int32) (N : Nat → Nat) (cl : Nat → Nat → Nat → Int32) (i j d : Nat) (ρ : Nat → Nat) (yt yt' : Nat → Int32) : Prop :=
  ∀ p, yt' p = yt p + nI (if i ≤ p ∧ p < j then ry_R K a N cl p d ρ else 0)
/-- a stretch from i to j, at d blocks, gone through from v -/
def ry_SR (yh yo sT sR : Int32) (rc ce kd ar fr : Nat → Int32) (K N : Nat → Nat) (cl : Nat → Nat → Nat → Int32) (ph : Nat → Nat → Nat) (s i j d : Nat) (ρ : Nat → Nat) (v : SY) (yt fo va se : Nat → Int32) : Prop :=
  ∃ (n : Nat) (yt' fo' va' se' : Nat → Int32), n ≤ (j - i) * 6 ^ (3 - d) ∧ ry_ti K ar N cl i j d ρ yt yt' ∧ ry_same d fo va se fo' va' se' ∧
    (((0 < d → rq_A K ar N cl j (d - 1) ρ = true) ∧ ∃ v', ry_Cf yh yo sT sR rc ce kd ar fr K N cl ph s j ρ yt' fo' va' se' v' ∧ ry_Go n i v j v') ∨
     (0 < d ∧ rq_A K ar N cl j (d - 1) ρ = false ∧ ∃ v', ry_Pn yh yo sT sR rc ce kd ar fr K N cl ph s j (d - 1) ρ (ph (rq_T K ar j (d - 1)) (ρ (d - 1)) + 1) yt' fo' va' se' v' ∧ ∀ i'' v'', ry_NR v' i'' v'' → ry_Go n i v i'' v''))
theorem ry_ti_tr {a : Nat → Int32} {i k j d : Nat} {ρ : Nat → Nat} {yt yt1 yt2 : Nat → Int32} (hk : i ≤ k) (hj : k ≤ j) (h1 : ry_ti K a N cl i k d ρ yt yt1) (h2 : ry_ti K a N cl k j d ρ yt1 yt2) : ry_ti K a N cl i j d ρ yt yt2 := fun p => by
  rw [h2 p, h1 p, Int32.add_assoc, nI_add]
  by_cases c1 : i ≤ p ∧ p < k
  · rw [if_pos c1, if_neg (by omega), if_pos (by omega)]; rfl
  · rw [if_neg c1]
    by_cases c2 : k ≤ p ∧ p < j
    · rw [if_pos c2, if_pos (by omega), Nat.zero_add]
    · rw [if_neg c2, if_neg (by omega)]
theorem ry_app {i k j d n1 : Nat} {ρ : Nat → Nat} {v v1 : SY} {yt fo va se yt1 fo1 va1 se1 : Nat → Int32} (hk : i ≤ k) (hj : k ≤ j) (hn : n1 ≤ (k - i) * 6 ^ (3 - d)) (hG : ry_Go n1 i v k v1) (ht : ry_ti K ar N cl i k d ρ yt yt1) (hs : ry_same d fo va se fo1 va1 se1) (h : ry_SR yh yo sT sR rc ce kd ar fr K N cl ph s k j d ρ v1 yt1 fo1 va1 se1) : ry_SR yh yo sT sR rc ce kd ar fr K N cl ph s i j d ρ v yt fo va se := by
  obtain ⟨n, yt', fo', va', se', h1, h2, h3, h4⟩ := h
  refine ⟨n1 + n, yt', fo', va', se', ?_, ry_ti_tr hk hj ht h2, ry_same_tr hs h3 (Nat.le_refl d), ?_⟩
  · have e : j - i = (k - i) + (j - k) := by omega
    rw [e, Nat.add_mul]
    omega
  · rcases h4 with ⟨h4, v', h5, h6⟩ | ⟨h4, h5, v', h6, h7⟩
    · exact Or.inl ⟨h4, v', h5, ry_Go_tr hG h6⟩
    · exact Or.inr ⟨h4, h5, v', h6, fun i'' v'' hn => ry_Go_tr hG (h7 i'' v'' hn)⟩
theorem ry_R1 {a : Nat → Int32} {p d : Nat} {ρ : Nat → Nat} (ho : rq_o K p = d) (hA : 0 < d → rq_A K a N cl p (d - 1) ρ = true) : ry_R K a N cl p d ρ = 1 := by
  unfold ry_R
  rw [if_pos (by
    by_cases c : d = 0
    · exact Or.inl c
    · exact Or.inr (hA (by omega))), ho, Nat.sub_self]
  rfl
theorem ry_R0 {a : Nat → Int32} {p d : Nat} {ρ : Nat → Nat} (hd : 0 < d) (hA : rq_A K a N cl p (d - 1) ρ = false) : ry_R K a N cl p d ρ = 0 := by
  unfold ry_R
  refine if_neg (fun z => ?_)
  rcases z with z | z
  · omega
  · rw [hA] at z; exact absurd z (by decide)
theorem ry_ti1 {a : Nat → Int32} {i d : Nat} {ρ : Nat → Nat} {yt : Nat → Int32} (hR : ry_R K a N cl i d ρ = 1) : ry_ti K a N cl i (i + 1) d ρ yt (upd yt i (yt i + 1)) := fun p => by
  by_cases c : p = i
  · rw [c, pk_us, if_pos (by omega), hR]; rfl
  · rw [pk_un c, if_neg (by omega)]; exact (Int32.add_zero _).symm
theorem ry_T1 {a : Nat → Int32} {i b : Nat} (h : K i ≠ 10) : rq_T K a (i + 1) b = rq_T K a i b := by unfold rq_T; rw [(rq_sn h).2]
/-- a token within a block: one step -/
theorem ry_simple (H : ry_H K N M cl ph s sT sR rc ce kd ar) {i : Nat} {ρ : Nat → Nat} {v : SY} {yt fo va se : Nat → Int32} (hi : i < s) (h9 : K i ≤ 9) (hρ : ∀ b, b < rq_o K i → ρ b < N (rq_T K ar i b)) (hC : ry_Cf yh yo sT sR rc ce kd ar fr K N cl ph s i ρ yt fo va se v) : ∃ v1, ry_Cf yh yo sT sR rc ce kd ar fr K N cl ph s (i + 1) ρ (upd yt i (yt i + 1)) fo va se v1 ∧ ry_Go 1 i v (i + 1) v1 := by
  obtain ⟨hs, hk, hW, hM, -, -, hph, -, hce⟩ := H
  obtain ⟨st, be, rA, rfl, hst, hbr⟩ := hC
  have hO := hW i hi
  obtain ⟨k17, hCe, -, hl, hE, hP, hR⟩ := hO
  obtain ⟨h6, h3, hf, hm, hb⟩ := rq_st (a := ar) i (fun q hq => hW q (by omega))
  obtain ⟨e1, e2⟩ := rq_sS h9
  have c10 : K i ≠ 10 := by omega
  have ek := hk i hi
  have mk : ∀ (w : Nat) (x : Int32), w + 1 = rq_h K (i + 1) → (∀ e, e < w → rq_V K ar N cl (i + 1) e ρ = rq_V K ar N cl i e ρ) → w ≤ rq_h K i → rq_V K ar N cl (i + 1) w ρ = x → ry_Cf yh yo sT sR rc ce kd ar fr K N cl ph s (i + 1) ρ (upd yt i (yt i + 1)) fo va se (nI s, yh, yo, nI (w + 1), sT, sR, nI (rq_o K i), rc, ce, kd, ar, fr, upd st w x, upd yt i (yt i + 1), be, rA, fo, va, se) := by
    intro w x hw hV hwh hx
    refine ⟨upd st w x, be, rA, by rw [e2, hw], fun e he => ?_, fun b hb1 => ?_⟩
    · by_cases c : e = w
      · rw [c, pk_us, hx]
      · rw [pk_un c, hV e (by omega)]; exact hst e (by omega)
    · rw [e2] at hb1
      rw [(rq_sn c10).2, ry_T1 c10]
      exact hbr b hb1
  by_cases k0 : K i = 0
  · have t0 : rq_tk (K i) = 0 := rq_tk0 _ (by omega)
    have := hP (by omega) (by omega) t0
    refine ⟨_, mk (rq_h K i) (ar i) (by omega) (fun e he => by rw [rq_V0 k0, if_neg (by omega)]) (by omega) (by rw [rq_V0 k0, if_pos rfl]), ?_⟩
    exact ry_Go_1 hi hs (fun post hp => ry_s0 (by omega) (by rw [ek, k0]) (by omega) hp)
  · by_cases k1 : K i = 1
    · have t0 : rq_tk (K i) = 0 := rq_tk0 _ (by omega)
      have := hP (by omega) (by omega) t0
      obtain ⟨j, hj, ej, hjo⟩ := hCe k1
      obtain ⟨b1, b2⟩ := hbr (j / 3) hjo
      obtain ⟨g1, g2, -⟩ := hb (j / 3) hjo
      obtain ⟨t, ht, et⟩ := (hW _ (show rq_bg K i (j / 3) < s by omega)).2.2.1 g2
      have eT : rq_T K ar i (j / 3) = t := by unfold rq_T; rw [et]; exact nI_clamp (by omega)
      have hr := hρ (j / 3) hjo
      rw [eT] at hr b2
      have hr2 := hph t (ρ (j / 3)) ht hr
      have hm2 := hM t ht
      have ec := hce t (ρ (j / 3)) (j % 3) ht hr (by omega)
      refine ⟨_, mk (rq_h K i) (ce (18 * t + 3 * ph t (ρ (j / 3)) + j % 3)) (by omega) (fun e he => by rw [rq_V1 k1, if_neg (by omega)]) (by omega) (by rw [rq_V1 k1, if_pos rfl, ej, nI_clamp (by omega), eT, ec]), ?_⟩
      exact ry_Go_1 hi hs (fun post hp => ry_s1 (by omega) (by rw [ek, k1]) (by omega) ej hj b1 (by omega) et ht b2 (by omega) hp)
    · by_cases k8 : K i ≤ 8
      · have t2 := rq_tk2 (K i) (by omega) k8
        obtain ⟨w, hw⟩ : ∃ w, rq_h K i = w + 2 := ⟨rq_h K i - 2, by omega⟩
        have eV : rq_V K ar N cl (i + 1) w ρ = rq_op (K i) (st w) (st (w + 1)) := by
          rw [rq_V2 (by omega) k8, if_pos (by omega), hst w (by omega), hst (w + 1) (by omega), hw]; rfl
        refine ⟨_, mk w _ (by omega) (fun e he => by rw [rq_V2 (by omega) k8, if_neg (by omega)]) (by omega) eV, ?_⟩
        exact ry_Go_1 hi hs (fun post hp => ry_s2 (by omega) ek (by omega) k8 (by omega) hw hp)
      · have k9 : K i = 9 := by omega
        have t1 : rq_tk (K i) = 1 := by rw [k9]; decide
        obtain ⟨w, hw⟩ : ∃ w, rq_h K i = w + 1 := ⟨rq_h K i - 1, by omega⟩
        have eV : rq_V K ar N cl (i + 1) w ρ = rq_op 9 (st w) 0 := by
          rw [rq_V9 k9, if_pos (by omega), hst w (by omega), hw]; rfl
        refine ⟨_, mk w _ (by omega) (fun e he => by rw [rq_V9 k9, if_neg (by omega)]) (by omega) eV, ?_⟩
        exact ry_Go_1 hi hs (fun post hp => ry_s9 (by omega) (by rw [ek, k9]) (by omega) hw hp)
end
end
section
/-! the reference's run: blocks, by induction over stretches -/
section
variable {yh yo sT sR : Int32} {rc ce kd ar fr : Nat → Int32} {K N M : Nat → Nat} {cl : Nat → Nat → Nat → Int32} {ph : Nat → Nat → Nat} {s : Nat}
/-- the numbers that the rows below r of the block that ends at e hand over, the last first -/
def ry_vs (K : Nat → Nat) (a : Nat → Int32) (N : Nat → Nat) (cl : Nat → Nat → Nat → Int32) (e d : Nat) (ρ : Nat → Nat) : Nat → List Int32
  | 0 => []
  | r + 1 => if rq_A K a N cl e d (rq_set ρ d r) = true then (if rq_tk (K e) = 0 then 0 else rq_V K a N cl e (rq_h K e - 1) (rq_set ρ d r)) :: ry_vs K a N cl e d ρ r else ry_vs K a N cl e d ρ r
theorem ry_vs_len {a : Nat → Int32} {e d : Nat} {ρ : Nat → Nat} : ∀ r, (ry_vs K a N cl e d ρ r).length ≤ r := by
  intro r
  induction r with
  | zero => exact Nat.le_refl 0
  | succ r ih =>
    unfold ry_vs
    split
    · rw [List.length_cons]; omega
    · omega
theorem ry_vs_eq {a : Nat → Int32} {e d : Nat} {ρ : Nat → Nat} : ∀ r, ry_vs K a N cl e d ρ r = ((rq_rows r (fun r => rq_A K a N cl e d (rq_set ρ d r))).map (fun r => if rq_tk (K e) = 0 then 0 else rq_V K a N cl e (rq_h K e - 1) (rq_set ρ d r))).reverse := by
  intro r
  induction r with
  | zero => rfl
  | succ r ih =>
    unfold ry_vs rq_rows
    rw [List.range_succ, List.filter_append, List.map_append, List.reverse_append, ih]
    by_cases c : rq_A K a N cl e d (rq_set ρ d r) = true
    · rw [if_pos c, List.filter_cons_of_pos (by exact c)]; rfl
    · rw [if_neg c, List.filter_cons_of_neg (by exact c)]; rfl
/-- what the end of the block pushes -/
theorem ry_vs_gth {a : Nat → Int32} {e d n : Nat} {ρ : Nat → Nat} (hk : 12 ≤ K e) (h17 : K e ≤ 17) : rq_gth (K e) ((rq_rows n (fun r => rq_A K a N cl e d (rq_set ρ d r))).map (fun r => rq_V K a N cl e (rq_h K e - 1) (rq_set ρ d r))) = if K e = 12 then nI (ry_vs K a N cl e d ρ n).length else if K e = 13 then (if (ry_vs K a N cl e d ρ n).length = 0 then 0 else 1) else rq_rv (K e) (ry_vs K a N cl e d ρ n) := by
  have el : ((rq_rows n (fun r => rq_A K a N cl e d (rq_set ρ d r))).map (fun r => rq_V K a N cl e (rq_h K e - 1) (rq_set ρ d r))).length = (ry_vs K a N cl e d ρ n).length := by
    rw [ry_vs_eq, List.length_reverse, List.length_map, List.length_map]
  unfold rq_gth
  rw [el]
  by_cases c12 : K e = 12
  · rw [if_pos c12, if_pos c12]
  · rw [if_neg c12, if_neg c12]
    by_cases c13 : K e = 13
    · rw [if_pos c13, if_pos c13]
    · rw [if_neg c13, if_neg c13, ry_vs_eq]
      have t1 := rq_tk1 (K e) (by omega)
      rw [t1]
      rfl
theorem ry_AC_same {k b : Nat} {vs : List Int32} {fo va se fo' va' se' : Nat → Int32} (hv : vs.length ≤ 6) (h : ry_AC k b vs fo va se) (hs : ry_same (b + 1) fo va se fo' va' se') : ry_AC k b vs fo' va' se' := by
  obtain ⟨a1, a2, a3⟩ := h
  obtain ⟨s1, s2, s3⟩ := hs b (by omega)
  refine ⟨s1.trans a1, fun z => s2.trans (a2 z), fun z => ?_⟩
  obtain ⟨m, hm, em, hx⟩ := a3 z
  refine ⟨m, hm, s2.trans em, fun x => (hx x).trans ⟨?_, ?_⟩⟩
  · rintro ⟨j, hj, ej⟩; exact ⟨j, hj, (s3 j (by omega)).trans ej⟩
  · rintro ⟨j, hj, ej⟩; exact ⟨j, hj, (s3 j (by omega)).symm.trans ej⟩
/-- the rows of a block, from row r on -/
theorem ry_rows (H : ry_H K N M cl ph s sT sR rc ce kd ar) {i e d t : Nat} {ρ : Nat → Nat} (hes : e < s) (hie : i < e) (k10 : K i = 10) (hod : rq_o K i = d) (kE : 12 ≤ K e) (hoe : rq_o K e = d + 1) (hq : ∀ q, i < q → q ≤ e → d + 1 ≤ rq_o K q) (et : ar i = nI t) (ht : t < 3) (hρ : ∀ b, b < d → ρ b < N (rq_T K ar i b))
    (IH : ∀ (ρ' : Nat → Nat) v yt fo va se, (∀ b, b < d + 1 → ρ' b < N (rq_T K ar (i + 1) b)) → ry_Cf yh yo sT sR rc ce kd ar fr K N cl ph s (i + 1) ρ' yt fo va se v → ry_SR yh yo sT sR rc ce kd ar fr K N cl ph s (i + 1) e (d + 1) ρ' v yt fo va se) (yt0 : Nat → Int32) :
    ∀ m r, r + m = N t → ∀ (q : Nat) (v : SY) (yt fo va se : Nat → Int32), ry_Pn yh yo sT sR rc ce kd ar fr K N cl ph s (i + 1) d ρ q yt fo va se v → ry_RF sT sR t q = ph t r → ry_AC (K e) d (ry_vs K ar N cl e d ρ r) fo va se →
      (∀ p, yt p = yt0 p + nI (if i < p ∧ p ≤ e then rq_sum r (fun x => ry_R K ar N cl p (d + 1) (rq_set ρ d x)) else 0)) →
      ∃ (i' : Nat) (v' : SY) (n : Nat) (yt' fo' va' se' : Nat → Int32) (vf : SY), ry_NR v i' v' ∧ ry_Go n i' v' (e + 1) vf ∧ ry_Cf yh yo sT sR rc ce kd ar fr K N cl ph s (e + 1) ρ yt' fo' va' se' vf ∧ n ≤ m * ((e - i) * 6 ^ (3 - (d + 1))) ∧
        (∀ p, yt' p = yt0 p + nI (if i < p ∧ p ≤ e then rq_sum (N t) (fun x => ry_R K ar N cl p (d + 1) (rq_set ρ d x)) else 0)) ∧ ry_same d fo va se fo' va' se' := by
  have H' := H
  obtain ⟨hs, hk, hW, hM, hp0, hp1, hph, hpN, hce⟩ := H'
  obtain ⟨h6, h3, hf, hm, hb⟩ := rq_st (a := ar) i (fun q hq => hW q (by omega))
  obtain ⟨g6, g3, gf, gm, gb⟩ := rq_st (a := ar) e (fun q hq => hW q (by omega))
  obtain ⟨lV, lA⟩ := rq_lc (a := ar) (N := N) (cl := cl) i (fun q hq => hW q (by omega))
  obtain ⟨s1, s2, s3, s4⟩ := rq_s10 k10
  obtain ⟨E1, E2⟩ := rq_sE kE
  obtain ⟨e17, -, -, el, eE, eP, eR⟩ := hW e hes
  have eE := eE (by omega)
  have kn10 : K e ≠ 10 := by omega
  have hd3 : d < 3 := by have := (hW i (by omega)).2.2.2.2.2.2 k10; omega
  obtain ⟨m0, hm0⟩ : ∃ m0, e = (i + 1) + m0 := ⟨e - (i + 1), by omega⟩
  have sg := rq_seg (K := K) (i := i + 1) (d := d + 1) m0 (fun q h1 h2 => hq q (by omega) (by omega))
  rw [← hm0] at sg
  have sV := (rq_segV (K := K) (a := ar) (N := N) (cl := cl) (i := i + 1) (d := d) m0 (fun q hq1 => hW q (by omega)) (fun q h1 h2 => hq q (by omega) (by omega))).1
  rw [← hm0] at sV
  have fli : rq_fl K (i + 1) d = rq_h K i := by rw [s3, if_pos hod.symm]
  have fle : rq_fl K e d = rq_h K i := by rw [(sg d (by omega)).2, fli]
  have bgi : rq_bg K (i + 1) d = i := by rw [s4, if_pos hod.symm]
  have loe : rq_lo K e = rq_h K i := by unfold rq_lo; rw [if_neg (by omega), hoe]; exact fle
  have VI : rq_V K ar N cl (i + 1) = rq_V K ar N cl i := rq_V11 (Or.inl k10)
  have Vloc : ∀ x r, x < rq_h K i → rq_V K ar N cl i x (rq_set ρ d r) = rq_V K ar N cl i x ρ := fun x r hx => rq_loc_set (lV (rq_o K i) x (Nat.le_refl _) hx (fun z => absurd z (by omega))) (by omega) ρ
  have Ti : rq_T K ar (i + 1) d = t := by unfold rq_T; rw [bgi, et]; exact nI_clamp (by omega)
  have Te : rq_T K ar e d = t := by unfold rq_T; rw [(sg d (by omega)).1, bgi, et]; exact nI_clamp (by omega)
  have Tlo : ∀ b, b < d → rq_T K ar (i + 1) b = rq_T K ar i b := fun b hb1 => by unfold rq_T; rw [s4, if_neg (by omega)]
  obtain ⟨M1, M2, M3⟩ := hM t ht
  intro m
  induction m with
  | zero =>
    intro r hr q v yt fo va se hP hRF hAC hyt
    obtain ⟨st, be, rA, rfl, p1, p2, p3, p4⟩ := hP
    have er : r = N t := by omega
    subst er
    obtain ⟨n1, n2⟩ := hpN t ht
    have len := ry_vs_len (K := K) (a := ar) (N := N) (cl := cl) (e := e) (d := d) (ρ := ρ) (N t)
    have hNR := ry_nextE (sT := sT) (sR := sR) (yh := yh) (yo := yo) (rc := rc) (ce := ce) (kd := kd) (ar := ar) (fr := fr) (st := st) (yt := yt) (be := be) (rA := rA) (fo := fo) (va := va) (se := se) (K := K) (b := d) (g := i) (t := t) (q := q) (M := M t) (r := ph t (N t)) (s := s) (e := e) (w := rq_fl K (i + 1) d) (k := (ry_vs K ar N cl e d ρ (N t)).length) hs hk (fun q hq1 => ⟨(hW q hq1).1, (rq_st (a := ar) q (fun x hx => hW x (by omega))).2.1⟩) hie hes kE hoe k10 hod (fun q h1 h2 => hq q h1 h2) hd3 (by rw [p2 d (by omega), bgi]) et ht p4 M1 M2 hRF n1 n2 (by omega) hAC.1 (by omega)
    refine ⟨_, _, 0, yt, fo, va, se, _, hNR, ry_Go_rf, ⟨upd st (rq_fl K (i + 1) d) (if K e = 12 then nI (ry_vs K ar N cl e d ρ (N t)).length else if K e = 13 then (if (ry_vs K ar N cl e d ρ (N t)).length = 0 then 0 else 1) else va d), be, upd rA d (nI (ph t (N t))), ?_, fun x hx => ?_, fun b hb1 => ?_⟩, by omega, hyt, ry_same_rf⟩
    · rw [E1, E2, hoe, show rq_h K e - rq_tk (K e) + 1 = rq_fl K (i + 1) d + 1 by omega]; rfl
    · rw [rq_VE kE]
      by_cases cx : x = rq_h K i
      · rw [if_pos (show x + rq_tk (K e) = rq_h K e by omega), cx, fli, pk_us, hoe, Nat.add_sub_cancel, Te, ry_vs_gth kE e17]
        by_cases c12 : K e = 12
        · rw [if_pos c12, if_pos c12]
        · rw [if_neg c12, if_neg c12]
          by_cases c13 : K e = 13
          · rw [if_pos c13, if_pos c13]
          · rw [if_neg c13, if_neg c13]; exact hAC.2.1 (by omega)
      · rw [if_neg (show ¬ x + rq_tk (K e) = rq_h K e by omega), fli, pk_un cx, sV x (by omega)]
        exact p1 x (by omega)
    · rw [E2, hoe] at hb1
      rw [(rq_sn kn10).2, (sg b (by omega)).1]
      refine ⟨p2 b (by omega), ?_⟩
      rw [pk_un (by omega), p3 b (by omega)]
      unfold rq_T
      rw [(rq_sn kn10).2, (sg b (by omega)).1]
  | succ m ih =>
    intro r hr q v yt fo va se hP hRF hAC hyt
    obtain ⟨st, be, rA, rfl, p1, p2, p3, p4⟩ := hP
    have hrN : r < N t := by omega
    have hphr := hph t r ht hrN
    have hNR := ry_next (sz := nI s) (tp := nI (rq_fl K (i + 1) d)) (sT := sT) (sR := sR) (yh := yh) (yo := yo) (rc := rc) (ce := ce) (kd := kd) (ar := ar) (fr := fr) (st := st) (yt := yt) (be := be) (rA := rA) (fo := fo) (va := va) (se := se) (b := d) (g := i) (t := t) (q := q) (M := M t) (r := ph t r) hd3 (by rw [p2 d (by omega), bgi]) (by omega) et ht p4 M1 M2 hRF hphr
    have hC1 : ry_Cf yh yo sT sR rc ce kd ar fr K N cl ph s (i + 1) (rq_set ρ d r) yt fo va se (nI s, yh, yo, nI (rq_fl K (i + 1) d), sT, sR, nI (d + 1), rc, ce, kd, ar, fr, st, yt, be, upd rA d (nI (ph t r)), fo, va, se) := by
      refine ⟨st, be, _, by rw [s1, s2, hod, fli], fun x hx => ?_, fun b hb1 => ?_⟩
      · rw [s1] at hx
        rw [VI, Vloc x r hx, ← VI]
        exact p1 x (by omega)
      · rw [s2, hod] at hb1
        refine ⟨p2 b (by omega), ?_⟩
        by_cases c : b = d
        · rw [c, pk_us, Ti, rq_set_s]
        · rw [pk_un c, rq_set_o c]; exact p3 b (by omega)
    have hρ1 : ∀ b, b < d + 1 → rq_set ρ d r b < N (rq_T K ar (i + 1) b) := fun b hb1 => by
      by_cases c : b = d
      · rw [c, rq_set_s, Ti]; exact hrN
      · rw [rq_set_o c, Tlo b (by omega)]; exact hρ b (by omega)
    obtain ⟨n1, yt1, fo1, va1, se1, b1, b2, b3, b4⟩ := IH _ _ _ _ _ _ hρ1 hC1
    have hvl := ry_vs_len (K := K) (a := ar) (N := N) (cl := cl) (e := e) (d := d) (ρ := ρ) r
    have hAC1 := ry_AC_same (by omega) hAC b3
    have bound : ∀ n3, n3 ≤ m * ((e - i) * 6 ^ (3 - (d + 1))) → n1 + (1 + n3) ≤ (m + 1) * ((e - i) * 6 ^ (3 - (d + 1))) := fun n3 h => by
      rw [Nat.add_mul, Nat.one_mul]
      have e1 : e - i = (e - (i + 1)) + 1 := by omega
      have e2 : (e - i) * 6 ^ (3 - (d + 1)) = (e - (i + 1)) * 6 ^ (3 - (d + 1)) + 6 ^ (3 - (d + 1)) := by rw [e1, Nat.add_mul, Nat.one_mul]
      have e3 : 0 < 6 ^ (3 - (d + 1)) := Nat.pow_pos (by decide)
      omega
    rcases b4 with ⟨b5, v2, b6, b7⟩ | ⟨-, b5, v2, b6, b7⟩
    · have b5 := b5 (by omega)
      rw [Nat.add_sub_cancel] at b5
      obtain ⟨st2, be2, rA2, rfl, c1, c2⟩ := b6
      rw [hoe] at c2
      have ehe : rq_h K e = rq_fl K (i + 1) d + rq_tk (K e) := by omega
      obtain ⟨fo2, va2, se2, a1, a2, a3⟩ := ry_take (sz := nI s) (tp := nI (rq_fl K (i + 1) d)) (sT := sT) (sR := sR) (yh := yh) (yo := yo) (rc := rc) (ce := ce) (kd := kd) (ar := ar) (fr := fr) (st := st2) (yt := upd yt1 e (yt1 e + 1)) (be := be2) (rA := rA2) (fo := fo1) (va := va1) (se := se1) (if rq_tk (K e) = 0 then 0 else st2 (rq_fl K (i + 1) d)) hd3 kE e17 (by omega) hAC1
      have evs : ry_vs K ar N cl e d ρ (r + 1) = (if rq_tk (K e) = 0 then 0 else st2 (rq_fl K (i + 1) d)) :: ry_vs K ar N cl e d ρ r := by
        show (if rq_A K ar N cl e d (rq_set ρ d r) = true then _ else _) = _
        rw [if_pos b5]
        by_cases ct : rq_tk (K e) = 0
        · rw [if_pos ct, if_pos ct]
        · have t1 : rq_tk (K e) = 1 := by
            by_cases c13 : K e ≤ 13
            · exact absurd (rq_tkE (K e) kE c13) ct
            · exact rq_tk1 _ (by omega)
          rw [if_neg ct, if_neg ct, c1 (rq_fl K (i + 1) d) (by omega), show rq_h K e - 1 = rq_fl K (i + 1) d by omega]
      rw [← evs] at a1
      have hP3 : ry_Pn yh yo sT sR rc ce kd ar fr K N cl ph s (i + 1) d ρ (ph t r + 1) (upd yt1 e (yt1 e + 1)) fo2 va2 se2 (nI s, yh, yo, nI (rq_fl K (i + 1) d), sT, sR, nI (d + 1), rc, ce, kd, ar, fr, st2, upd yt1 e (yt1 e + 1), be2, rA2, fo2, va2, se2) := by
        refine ⟨st2, be2, rA2, rfl, fun x hx => ?_, fun b hb1 => ?_, fun b hb1 => ?_, ?_⟩
        · rw [c1 x (by omega), sV x hx, VI, Vloc x r (by omega)]
        · rw [(c2 b hb1).1, (sg b hb1).1]
        · rw [(c2 b (by omega)).2, rq_set_o (by omega)]
          unfold rq_T
          rw [(sg b (by omega)).1]
        · rw [(c2 d (by omega)).2, rq_set_s, Te, nI_1]
      have hyt3 : ∀ p, upd yt1 e (yt1 e + 1) p = yt0 p + nI (if i < p ∧ p ≤ e then rq_sum (r + 1) (fun x => ry_R K ar N cl p (d + 1) (rq_set ρ d x)) else 0) := fun p => by
        by_cases c : p = e
        · rw [c, pk_us, b2 e, hyt e, if_pos (show i < e ∧ e ≤ e by omega), if_neg (show ¬ (i + 1 ≤ e ∧ e < e) by omega), if_pos (show i < e ∧ e ≤ e by omega)]
          have : ry_R K ar N cl e (d + 1) (rq_set ρ d r) = 1 := ry_R1 hoe (fun _ => b5)
          show _ = yt0 e + nI (rq_sum r _ + ry_R K ar N cl e (d + 1) (rq_set ρ d r))
          rw [this, ← nI_add, ← Int32.add_assoc, nI_0, Int32.add_zero]
          rfl
        · rw [pk_un c, b2 p, hyt p, Int32.add_assoc, nI_add]
          by_cases c2 : i < p ∧ p ≤ e
          · rw [if_pos c2, if_pos (show i + 1 ≤ p ∧ p < e by omega), if_pos c2]; rfl
          · rw [if_neg c2, if_neg (show ¬ (i + 1 ≤ p ∧ p < e) by omega), if_neg c2]
      obtain ⟨i3, v3, n3, yt', fo', va', se', vf, d1, d2, d3, d4, d5, d6⟩ := ih (r + 1) (by omega) (ph t r + 1) _ _ _ _ _ hP3 (hp1 t r ht hrN) a1 hyt3
      refine ⟨_, _, n1 + (1 + n3), yt', fo', va', se', vf, hNR, ry_Go_tr b7 (ry_Go_tr ?_ d2), d3, bound n3 d4, d5, ry_same_tr (ry_same_tr (fun c hc => b3 c (by omega)) a2 (Nat.le_refl d)) d6 (Nat.le_refl d)⟩
      rw [hoe]
      exact ry_Go_1 hes hs (fun post hp => ry_sE (by omega) (hk e hes) kE e17 (by omega) ehe a3 d1 post hp)
    · rw [Nat.add_sub_cancel] at b5 b6
      obtain ⟨st2, be2, rA2, rfl, c1, c2, c3, c4⟩ := b6
      rw [fle, ← fli] at c1
      have evs : ry_vs K ar N cl e d ρ (r + 1) = ry_vs K ar N cl e d ρ r := by
        show (if rq_A K ar N cl e d (rq_set ρ d r) = true then _ else _) = _
        rw [if_neg (by rw [b5]; decide)]
      rw [← evs] at hAC1
      have hP3 : ry_Pn yh yo sT sR rc ce kd ar fr K N cl ph s (i + 1) d ρ (ph t r + 1) yt1 fo1 va1 se1 (nI s, yh, yo, nI (rq_fl K e d), sT, sR, nI (d + 1), rc, ce, kd, ar, fr, st2, yt1, be2, rA2, fo1, va1, se1) := by
        refine ⟨st2, be2, rA2, by rw [fle, fli], fun x hx => ?_, fun b hb1 => ?_, fun b hb1 => ?_, ?_⟩
        · rw [c1 x hx, sV x hx, VI, Vloc x r (by omega)]
        · rw [c2 b hb1, (sg b hb1).1]
        · rw [c3 b (by omega), rq_set_o (by omega)]
          unfold rq_T
          rw [(sg b (by omega)).1]
        · rw [c4, rq_set_s, Te]
      have hyt3 : ∀ p, yt1 p = yt0 p + nI (if i < p ∧ p ≤ e then rq_sum (r + 1) (fun x => ry_R K ar N cl p (d + 1) (rq_set ρ d x)) else 0) := fun p => by
        by_cases c : p = e
        · rw [c, b2 e, hyt e, if_pos (show i < e ∧ e ≤ e by omega), if_neg (show ¬ (i + 1 ≤ e ∧ e < e) by omega), if_pos (show i < e ∧ e ≤ e by omega)]
          have : ry_R K ar N cl e (d + 1) (rq_set ρ d r) = 0 := ry_R0 (by omega) b5
          show _ = yt0 e + nI (rq_sum r _ + ry_R K ar N cl e (d + 1) (rq_set ρ d r))
          rw [this, Nat.add_zero]
          exact Int32.add_zero _
        · rw [b2 p, hyt p, Int32.add_assoc, nI_add]
          by_cases c2 : i < p ∧ p ≤ e
          · rw [if_pos c2, if_pos (show i + 1 ≤ p ∧ p < e by omega), if_pos c2]; rfl
          · rw [if_neg c2, if_neg (show ¬ (i + 1 ≤ p ∧ p < e) by omega), if_neg c2]
      obtain ⟨i3, v3, n3, yt', fo', va', se', vf, d1, d2, d3, d4, d5, d6⟩ := ih (r + 1) (by omega) (ph t r + 1) _ _ _ _ _ hP3 (hp1 t r ht hrN) hAC1 hyt3
      refine ⟨_, _, n1 + n3, yt', fo', va', se', vf, hNR, ry_Go_tr (b7 _ _ d1) d2, d3, ?_, d5, ry_same_tr (fun c hc => b3 c (by omega)) d6 (Nat.le_refl d)⟩
      have := bound n3 d4
      omega
end
end
section
/-! the reference's run: every stretch; the whole run -/
theorem rq_least {P : Nat → Prop} {a b : Nat} (hab : a < b) (hb : P b) (ha : ¬ P a) : ∃ q, a < q ∧ q ≤ b ∧ P q ∧ ∀ x, a ≤ x → x < q → ¬ P x := by
  obtain ⟨m, rfl⟩ : ∃ m, b = a + m := ⟨b - a, by omega⟩
  induction m with
  | zero => exact absurd hb ha
  | succ m ih =>
    by_cases c : ∃ x, a ≤ x ∧ x ≤ a + m ∧ P x
    · obtain ⟨x, h1, h2, h3⟩ := c
      clear ih hb hab
      induction m generalizing x with
      | zero => exact absurd h3 (by rw [show x = a by omega]; exact ha)
      | succ m ih2 =>
        by_cases c2 : ∃ y, a ≤ y ∧ y ≤ a + m ∧ P y
        · obtain ⟨y, g1, g2, g3⟩ := c2
          obtain ⟨q, q1, q2, q3, q4⟩ := ih2 y g1 g2 g3
          exact ⟨q, q1, by omega, q3, q4⟩
        · refine ⟨x, Nat.lt_of_le_of_ne h1 (fun z => ha (by rw [z]; exact h3)), by omega, h3, fun y y1 y2 y3 => c2 ⟨y, y1, by omega, y3⟩⟩
    · exact ⟨a + (m + 1), by omega, Nat.le_refl _, hb, fun x x1 x2 x3 => c ⟨x, x1, by omega, x3⟩⟩
section
variable {yh yo sT sR : Int32} {rc ce kd ar fr : Nat → Int32} {K N M : Nat → Nat} {cl : Nat → Nat → Nat → Int32} {ph : Nat → Nat → Nat} {s : Nat}
theorem ry_sg (H : ry_H K N M cl ph s sT sR rc ce kd ar) : ∀ L i j d (ρ : Nat → Nat), i + L ≤ j + 0 → j ≤ i + L → j ≤ s → rq_o K i = d → rq_o K j = d → (∀ q, i ≤ q → q ≤ j → d ≤ rq_o K q) → (∀ b, b < d → ρ b < N (rq_T K ar i b)) → (0 < d → rq_A K ar N cl i (d - 1) ρ = true) → ∀ v yt fo va se, ry_Cf yh yo sT sR rc ce kd ar fr K N cl ph s i ρ yt fo va se v → ry_SR yh yo sT sR rc ce kd ar fr K N cl ph s i j d ρ v yt fo va se := by
  intro L
  induction L using Nat.strongRecOn with
  | _ L IH =>
  intro i j d ρ hL1 hL2 hjs hoi hoj hq hρ hA v yt fo va se hC
  have H' := H
  obtain ⟨hs, hk, hW, hM, hp0, hp1, hph, hpN, hce⟩ := H'
  have pos : 0 < 6 ^ (3 - d) := Nat.pow_pos (by decide)
  by_cases hL0 : L = 0
  · have eij : i = j := by omega
    subst eij
    exact ⟨0, yt, fo, va, se, Nat.zero_le _, fun p => by rw [if_neg (by omega)]; exact (Int32.add_zero _).symm, ry_same_rf, Or.inl ⟨hA, v, hC, ry_Go_rf⟩⟩
  have his : i < s := by omega
  obtain ⟨h6, h3, hf, hm, hb⟩ := rq_st (a := ar) i (fun q hq => hW q (by omega))
  obtain ⟨lV, lA⟩ := rq_lc (a := ar) (N := N) (cl := cl) i (fun q hq => hW q (by omega))
  obtain ⟨k17, -, -, kl, kE, kP, kR⟩ := hW i his
  have R1 : ry_R K ar N cl i d ρ = 1 := ry_R1 hoi hA
  have one : 1 ≤ (i + 1 - i) * 6 ^ (3 - d) := by rw [Nat.add_sub_cancel_left, Nat.one_mul]; exact pos
  by_cases k9 : K i ≤ 9
  · obtain ⟨v1, c1, c2⟩ := ry_simple H his k9 (by rw [hoi]; exact hρ) hC
    have k10 : K i ≠ 10 := by omega
    refine ry_app (Nat.le_succ i) (by omega) one c2 (ry_ti1 R1) ry_same_rf (IH (L - 1) (by omega) (i + 1) j d ρ (by omega) (by omega) hjs ?_ hoj (fun q h1 h2 => hq q (by omega) h2) (fun b hb1 => ?_) (fun hd => ?_) _ _ _ _ _ c1)
    · rw [(rq_sS k9).2, hoi]
    · rw [ry_T1 k10]; exact hρ b hb1
    · rw [rq_Ae k10 (by omega)]; exact hA hd
  by_cases k12 : 12 ≤ K i
  · have := hq (i + 1) (by omega) (by omega)
    rw [(rq_sE k12).2] at this
    have := (kE (by omega)).1
    omega
  by_cases k11 : K i = 11
  · obtain ⟨s1, s2⟩ := rq_s11 k11
    have k10 : K i ≠ 10 := by omega
    obtain ⟨kE1, kE2⟩ := kE (by omega)
    have t1 : rq_tk (K i) = 1 := by rw [k11]; decide
    have hd : 0 < d := by omega
    have lo : rq_lo K i = rq_fl K i (d - 1) := by unfold rq_lo; rw [if_neg (by omega), hoi]
    obtain ⟨w, hw⟩ : ∃ w, rq_h K i = w + 1 := ⟨rq_h K i - 1, by omega⟩
    have hw2 : rq_h K i - 1 = w := by omega
    obtain ⟨st, be, rA, rfl, c1, c2⟩ := hC
    have ev : st w = rq_V K ar N cl i (rq_h K i - 1) ρ := by rw [hw2]; exact c1 w (by omega)
    by_cases cz : st w = 0
    · have A1 : rq_A K ar N cl (i + 1) (d - 1) ρ = false := by rw [rq_A11 k11, if_pos (by omega), if_pos (by rw [← ev]; exact cz)]
      have Aj : ∀ p, i < p → p ≤ j → rq_A K ar N cl p (d - 1) ρ = false := fun p p1 p2 => by
        obtain ⟨m, hm1⟩ : ∃ m, p = (i + 1) + m := ⟨p - (i + 1), by omega⟩
        have := rq_segA (K := K) (a := ar) (N := N) (cl := cl) (i := i + 1) (d := d) m (fun q hq1 => hW q (by omega)) (fun q h1 h2 => hq q (by omega) (by omega)) (d - 1) ρ (by omega)
        rw [← hm1, A1] at this
        exact Bool.eq_false_iff.mpr (fun z => absurd (this z) (by decide))
      obtain ⟨m, hm1⟩ : ∃ m, j = i + m := ⟨j - i, by omega⟩
      have sg := rq_seg (K := K) (i := i) (d := d) m (fun q h1 h2 => hq q h1 (by omega))
      rw [← hm1] at sg
      have sV := (rq_segV (K := K) (a := ar) (N := N) (cl := cl) (i := i) (d := d - 1) m (fun q hq1 => hW q (by omega)) (fun q h1 h2 => by have := hq q h1 (by omega); omega)).1
      rw [← hm1] at sV
      have flj := (sg (d - 1) (by omega)).2
      have Tj : ∀ b, b < d → rq_T K ar j b = rq_T K ar i b := fun b hb1 => by unfold rq_T; rw [(sg b hb1).1]
      refine ⟨1, upd yt i (yt i + 1), fo, va, se, ?_, fun p => ?_, ry_same_rf, Or.inr ⟨hd, Aj j (by omega) (Nat.le_refl j), (nI s, yh, yo, nI w, sT, sR, nI (rq_o K i), rc, ce, kd, ar, fr, st, upd yt i (yt i + 1), be, rA, fo, va, se), ?_, fun i'' v'' hn => ?_⟩⟩
      · exact Nat.le_trans one (Nat.mul_le_mul_right _ (by omega))
      · by_cases c : p = i
        · rw [c, pk_us, if_pos (by omega), R1]; rfl
        · rw [pk_un c]
          by_cases c2 : i ≤ p ∧ p < j
          · rw [if_pos c2, ry_R0 hd (Aj p (by omega) (by omega))]; exact (Int32.add_zero _).symm
          · rw [if_neg c2]; exact (Int32.add_zero _).symm
      · refine ⟨st, be, rA, ?_, fun x hx => ?_, fun b hb1 => ?_, fun b hb1 => ?_, ?_⟩
        · rw [flj, show d - 1 + 1 = rq_o K i by omega, show rq_fl K i (d - 1) = w by omega]
        · rw [flj] at hx
          rw [sV x hx]; exact c1 x (by omega)
        · rw [(sg b (by omega)).1]; exact (c2 b (by omega)).1
        · rw [Tj b (by omega)]; exact (c2 b (by omega)).2
        · rw [(c2 (d - 1) (by omega)).2, Tj (d - 1) (by omega), nI_1]
      · exact ry_Go_1 his hs (fun post hp => ry_s11n (by omega) (by rw [hk i his, k11]) (by omega) hw cz hn post hp)
    · refine ry_app (Nat.le_succ i) (by omega) one (ry_Go_1 his hs (fun post hp => ry_s11 (by omega) (by rw [hk i his, k11]) (by omega) hw cz hp)) (ry_ti1 R1) ry_same_rf (IH (L - 1) (by omega) (i + 1) j d ρ (by omega) (by omega) hjs ?_ hoj (fun q h1 h2 => hq q (by omega) h2) (fun b hb1 => ?_) (fun hd => ?_) _ _ _ _ _ ⟨st, be, rA, ?_, fun x hx => ?_, fun b hb1 => ?_⟩)
      · rw [s2, hoi]
      · rw [ry_T1 k10]; exact hρ b hb1
      · rw [rq_A11 k11, if_pos (by omega), if_neg (by rw [← ev]; exact cz)]; exact hA hd
      · rw [s1, s2, hw2]
      · rw [rq_V11 (Or.inr k11)]; exact c1 x (by omega)
      · rw [s2] at hb1
        rw [(rq_sn k10).2, ry_T1 k10]; exact c2 b hb1
  · have k10 : K i = 10 := by omega
    obtain ⟨s1, s2, s3, s4⟩ := rq_s10 k10
    have hij : i + 1 < j := by
      refine Nat.lt_of_le_of_ne (by omega) (fun z => ?_)
      rw [← z, s2] at hoj
      omega
    obtain ⟨q, q1, q2, q3, q4⟩ := rq_least (P := fun x => rq_o K x ≤ d) hij (by omega) (by omega)
    obtain ⟨e, rfl⟩ : ∃ e, q = e + 1 := ⟨q - 1, by omega⟩
    have oe := q4 e (by omega) (by omega)
    have oe1 := hq (e + 1) (by omega) q2
    obtain ⟨e17, -, -, -, eE, -, -⟩ := hW e (by omega)
    have kEe : 12 ≤ K e := by
      refine Nat.le_of_not_lt (fun z => ?_)
      by_cases c10 : K e = 10
      · have := (rq_s10 c10).2.1; omega
      · by_cases c11 : K e = 11
        · have := (rq_s11 c11).2; omega
        · have := (rq_sS (K := K) (i := e) (by omega)).2; omega
    have o2 := (rq_sE kEe).2
    have hoe : rq_o K e = d + 1 := by omega
    obtain ⟨t, ht, et⟩ := (hW i his).2.2.1 k10
    have inn : ∀ q, i < q → q ≤ e → d + 1 ≤ rq_o K q := fun q h1 h2 => by have := q4 q (by omega) (by omega); omega
    obtain ⟨st, be, rA, rfl, c1, c2⟩ := hC
    rw [hoi] at c2
    have fli : rq_fl K (i + 1) d = rq_h K i := by rw [s3, if_pos hoi.symm]
    have Tlo : ∀ b, b < d → rq_T K ar (i + 1) b = rq_T K ar i b := fun b hb1 => by unfold rq_T; rw [s4, if_neg (by omega)]
    have hPn : ry_Pn yh yo sT sR rc ce kd ar fr K N cl ph s (i + 1) d ρ 0 (upd yt i (yt i + 1)) (upd fo d 0) (upd va d 0) se (nI s, yh, yo, nI (rq_h K i), sT, sR, nI (d + 1), rc, ce, kd, ar, fr, st, upd yt i (yt i + 1), upd be d (nI i), upd rA d (-1), upd fo d 0, upd va d 0, se) := by
      refine ⟨_, _, _, by rw [fli], fun x hx => ?_, fun b hb1 => ?_, fun b hb1 => ?_, ?_⟩
      · rw [rq_V11 (Or.inl k10)]; exact c1 x (by omega)
      · rw [s4]
        by_cases c : b = d
        · rw [if_pos (by omega), c, pk_us]
        · rw [if_neg (by omega), pk_un c]; exact (c2 b (by omega)).1
      · rw [pk_un (by omega), Tlo b hb1]; exact (c2 b hb1).2
      · rw [pk_us]; rfl
    obtain ⟨i', v', n, yt', fo', va', se', vf, d1, d2, d3, d4, d5, d6⟩ := ry_rows H (i := i) (e := e) (d := d) (t := t) (ρ := ρ) (by omega) (by omega) k10 hoi kEe hoe inn et ht hρ (fun ρ' v yt fo va se g1 g2 => IH (e - (i + 1)) (by omega) (i + 1) e (d + 1) ρ' (by omega) (by omega) (by omega) (by rw [s2, hoi]) hoe (fun q h1 h2 => inn q (by omega) h2) g1 (fun _ => by rw [rq_A10 k10, if_pos (by omega)]) v yt fo va se g2) (upd yt i (yt i + 1)) (N t) 0 (by omega) 0 _ _ _ _ _ hPn (hp0 t ht) ⟨pk_us, fun _ => pk_us, fun _ => ⟨0, Nat.le_refl 0, pk_us, fun x => ⟨fun z => absurd z (List.not_mem_nil), fun ⟨j, hj, _⟩ => absurd hj (Nat.not_lt_zero j)⟩⟩⟩ (fun p => by
        have : (if i < p ∧ p ≤ e then rq_sum 0 (fun x => ry_R K ar N cl p (d + 1) (rq_set ρ d x)) else 0) = 0 := by split <;> rfl
        rw [this]; exact (Int32.add_zero _).symm)
    have hd3 : d < 3 := by have := kR k10; omega
    have G : ry_Go (1 + n) i (nI s, yh, yo, nI (rq_h K i), sT, sR, nI (rq_o K i), rc, ce, kd, ar, fr, st, yt, be, rA, fo, va, se) (e + 1) vf := by
      rw [hoi]
      exact ry_Go_tr (ry_Go_1 (by omega) hs (fun post hp => ry_s10 (by omega) (by rw [hk i his, k10]) hd3 d1 post hp)) d2
    have nb : 1 + n ≤ (e + 1 - i) * 6 ^ (3 - d) := by
      have m1 := (hM t ht).2.2
      have e1 : 6 ^ (3 - d) = 6 * 6 ^ (3 - (d + 1)) := by rw [show 3 - d = (3 - (d + 1)) + 1 by omega, Nat.pow_succ, Nat.mul_comm]
      have e2 : N t * ((e - i) * 6 ^ (3 - (d + 1))) ≤ 6 * ((e - i) * 6 ^ (3 - (d + 1))) := Nat.mul_le_mul_right _ m1
      have e3 : 6 * ((e - i) * 6 ^ (3 - (d + 1))) = (e - i) * 6 ^ (3 - d) := by rw [e1, Nat.mul_left_comm]
      have e4 : e + 1 - i = (e - i) + 1 := by omega
      rw [e4, Nat.add_mul, Nat.one_mul]
      omega
    obtain ⟨m0, hm0⟩ : ∃ m0, e = (i + 1) + m0 := ⟨e - (i + 1), by omega⟩
    have sg := rq_seg (K := K) (i := i + 1) (d := d + 1) m0 (fun q h1 h2 => inn q (by omega) (by omega))
    have sA : ∀ m1, i + 1 + m1 ≤ e → ∀ b, b < d → rq_A K ar N cl (i + 1 + m1) b = rq_A K ar N cl (i + 1) b := fun m1 hm1 => (rq_segV (K := K) (a := ar) (N := N) (cl := cl) (i := i + 1) (d := d) m1 (fun q hq1 => hW q (by omega)) (fun q h1 h2 => inn q (by omega) (by omega))).2
    have Ain : ∀ p, i < p → p ≤ e → ∀ b, b < d → rq_A K ar N cl p b ρ = rq_A K ar N cl i b ρ := fun p p1 p2 b hb1 => by
      obtain ⟨m1, hm1⟩ : ∃ m1, p = i + 1 + m1 := ⟨p - (i + 1), by omega⟩
      rw [hm1, sA m1 (by omega) b hb1, rq_A10 k10, if_neg (by omega)]
    have Tin : ∀ p, i < p → p ≤ e → rq_T K ar p d = t := fun p p1 p2 => by
      obtain ⟨m1, hm1⟩ : ∃ m1, p = i + 1 + m1 := ⟨p - (i + 1), by omega⟩
      unfold rq_T
      rw [hm1, (rq_seg (K := K) (i := i + 1) (d := d + 1) m1 (fun q h1 h2 => inn q (by omega) (by omega)) d (by omega)).1, s4, if_pos hoi.symm, et]
      exact nI_clamp (by omega)
    have keepE := @rq_keep K ar N cl e (rq_st _ (fun q hq => hW q (by omega))) (hW e (by omega))
    refine ry_app (k := e + 1) (by omega) q2 nb G (fun p => ?_) (fun c hc => ?_) (IH (j - (e + 1)) (by omega) (e + 1) j d ρ (by omega) (by omega) hjs (by omega) hoj (fun q h1 h2 => hq q (by omega) h2) (fun b hb1 => ?_) (fun hd => ?_) _ _ _ _ _ d3)
    · rw [d5 p]
      by_cases cp : p = i
      · rw [cp, pk_us, if_neg (by omega), if_pos (by omega), R1]; exact Int32.add_zero _
      · rw [pk_un cp]
        by_cases c : i < p ∧ p ≤ e
        · rw [if_pos c, if_pos (by omega)]
          congr 2
          unfold ry_R
          have ho := inn p c.1 c.2
          rw [if_pos (by
            by_cases c0 : d = 0
            · exact Or.inl c0
            · exact Or.inr (by rw [Ain p c.1 c.2 (d - 1) (by omega)]; exact hA (by omega))), show rq_o K p - d = (rq_o K p - (d + 1)) + 1 by omega]
          show _ = rq_sum (N (rq_T K ar p d)) _
          rw [Tin p c.1 c.2]
          refine rq_sum_c _ (fun x _ => ?_)
          rw [Nat.add_sub_cancel]
          by_cases cA : rq_A K ar N cl p d (rq_set ρ d x) = true
          · rw [if_pos cA, if_pos (Or.inr cA)]
          · rw [if_neg cA, if_neg (fun z => z.elim (fun z => by omega) cA)]
        · rw [if_neg c, if_neg (by omega)]
    · obtain ⟨x1, x2, x3⟩ := d6 c hc
      exact ⟨x1.trans (pk_un (by omega)), x2.trans (pk_un (by omega)), x3⟩
    · rw [ry_T1 (by omega)]
      have : rq_T K ar e b = rq_T K ar i b := by
        rw [← Tlo b hb1]
        unfold rq_T
        rw [hm0, (sg b (by omega)).1]
      rw [this]
      exact hρ b hb1
    · rw [keepE.2.1 (d - 1) (by omega), Ain e (by omega) (Nat.le_refl e) (d - 1) (by omega)]
      exact hA hd
/-- the whole run -/
theorem ry_run (H : ry_H K N M cl ph s sT sR rc ce kd ar) (ho : rq_o K s = 0) (hh : rq_h K s = 1) {st yt be rA fo va se : Nat → Int32} (hyt : ∀ p, p < 48 → yt p = 0) : ∃ st' yt' be' rA' fo' va' se' : Nat → Int32, st' 0 = rq_V K ar N cl s 0 (fun _ => 0) ∧ (∀ p, p < s → yt' p = nI (rq_TM K ar N cl p)) ∧
    ∀ post : SY → Prop, post (nI s, yh, yo, nI 1, sT, sR, nI 0, rc, ce, kd, ar, fr, st', yt', be', rA', fo', va', se') → ∃ n, wY_work_46 post n 0 0 (nI s) yh yo (nI 0) sT sR (nI 0) rc ce kd ar fr st yt be rA fo va se := by
  have hs := H.1
  obtain ⟨n, yt', fo', va', se', a1, a2, a3, a4⟩ := ry_sg (yh := yh) (yo := yo) (fr := fr) H s 0 s 0 (fun _ => 0) (by omega) (by omega) (Nat.le_refl s) rfl ho (fun q _ _ => Nat.zero_le _) (fun b hb => absurd hb (Nat.not_lt_zero b)) (fun z => absurd z (Nat.lt_irrefl 0)) (nI s, yh, yo, nI 0, sT, sR, nI 0, rc, ce, kd, ar, fr, st, yt, be, rA, fo, va, se) yt fo va se ⟨st, be, rA, rfl, fun e he => absurd he (Nat.not_lt_zero e), fun b hb => absurd hb (Nat.not_lt_zero b)⟩
  rcases a4 with ⟨-, v', ⟨st', be', rA', rfl, c1, c2⟩, hG⟩ | ⟨z, -⟩
  · refine ⟨st', yt', be', rA', fo', va', se', c1 0 (by omega), fun p hp => ?_, fun post hpost => ⟨30001, ?_⟩⟩
    · rw [a2 p, if_pos (by omega), hyt p (by omega)]
      unfold ry_R
      rw [if_pos (Or.inl rfl), Nat.sub_zero]
      exact Int32.zero_add _
    · have b2 : n ≤ 30000 := by
        have : (s - 0) * 6 ^ (3 - 0) ≤ 48 * 216 := Nat.mul_le_mul (by omega) (by decide)
        omega
      refine hG post 0 (by omega) ?_
      rw [ho, hh]
      show wY_work_46 post (30001 - (0 + n)) (nI s) (nI (0 + n)) (nI s) yh yo (nI 1) sT sR (nI 0) rc ce kd ar fr st' yt' be' rA' fo' va' se'
      rw [show 30001 - (0 + n) = (30000 - n) + 1 by omega]
      exact br_c (fun _ => hpost) (fun _ => br_t (Int32.le_refl _) hpost)
  · exact absurd z (Nat.lt_irrefl 0)
theorem ry_zero {post : SY → Prop} {sz tp yd : Int32} {st be rA fo va se : Nat → Int32} (hp : ∀ yt : Nat → Int32, (∀ p, p < 48 → yt p = 0) → ∃ n, wY_work_46 post n 0 0 sz yh yo tp sT sR yd rc ce kd ar fr st yt be rA fo va se) : ∀ m i, i + m = 48 → ∀ n, m < n → ∀ yt : Nat → Int32, (∀ p, p < i → yt p = 0) → wY_work_22 post sz yh yo tp sT sR yd n (nI i) rc ce kd ar fr st yt be rA fo va se := by
  intro m
  induction m with
  | zero =>
    intro i hi n hn yt h
    obtain ⟨n, rfl⟩ : ∃ n', n = n' + 1 := ⟨n - 1, by omega⟩
    exact br_t (nI_le (a := 48) (by omega) (by omega)) (hp yt (fun p hp => h p (by omega)))
  | succ m ih =>
    intro i hi n hn yt h
    obtain ⟨n, rfl⟩ : ∃ n', n = n' + 1 := ⟨n - 1, by omega⟩
    refine br_f (nI_ge (b := 48) (by omega) (by decide)) ⟨vp_in_nI (by omega) (by decide), nm_r (e' := upd yt i 0) (by rw [nI_clamp (by omega)]) (nm_r (nI_1 i) (ih (i + 1) (by omega) n (by omega) _ (fun p hp => ?_)))⟩
    by_cases c : p = i
    · rw [c, pk_us]
    · rw [pk_un c]; exact h p (by omega)
/-- carrying the program out -/
theorem ry_work (H : ry_H K N M cl ph s sT sR rc ce kd ar) (ho : rq_o K s = 0) (hh : rq_h K s = 1) {tp yd xT xR : Int32} {st yt be rA fo va se : Nat → Int32} (post : SY → Prop) (h : ∀ st' yt' be' rA' fo' va' se' : Nat → Int32, st' 0 = rq_V K ar N cl s 0 (fun _ => 0) → (∀ p, p < s → yt' p = nI (rq_TM K ar N cl p)) → post (nI s, yh, yo, nI 1, sT, sR, nI 0, rc, ce, kd, ar, fr, st', yt', be', rA', fo', va', se')) : wpY_work post (nI s, yh, yo, tp, xT, xR, yd, rc, ce, kd, ar, fr, st, yt, be, rA, fo, va, se) sT sR := by
  unfold wpY_work
  refine ⟨49, ry_zero (fun yt hyt => ?_) 48 0 (by omega) 49 (by omega) yt (fun p hp => absurd hp (Nat.not_lt_zero p))⟩
  obtain ⟨st', yt', be', rA', fo', va', se', h1, h2, h3⟩ := ry_run (yh := yh) (yo := yo) (fr := fr) (st := st) (be := be) (rA := rA) (fo := fo) (va := va) (se := se) H ho hh hyt
  exact h3 post (h st' yt' be' rA' fo' va' se' h1 h2)
end
end
section
/-! the component's walk: small methods, lanes, numbers -/
theorem rx_taken {post : Int32 → Prop} {k : Nat} (hk : k ≤ 17) (h : post (nI (rq_tk k))) : wpX_taken post (nI k) := by
  have c := rq_k18 hk
  unfold wpX_taken
  rcases c with rfl | rfl | rfl | rfl | rfl | rfl | rfl | rfl | rfl | rfl | rfl | rfl | rfl | rfl | rfl | rfl | rfl | rfl <;> ((repeat (first | refine br_t (by decide) ?_ | refine br_f (by decide) ?_)); exact h)
theorem rx_ends {post : Int32 → Prop} {k : Nat} (hk : k < 2 ^ 31) (h1 : 12 ≤ k → post 1) (h0 : k < 12 → post 0) : wpX_ends post (nI k) := by
  unfold wpX_ends
  exact pk_lt k 12 h0 h1
theorem rx_worked {post : Int32 → Prop} {k : Nat} (h2 : 2 ≤ k) (h9 : k ≤ 9) (x y : Int32) (h : post (rq_op k x y)) : wpX_worked post (nI k) x y := by
  have c : k = 2 ∨ k = 3 ∨ k = 4 ∨ k = 5 ∨ k = 6 ∨ k = 7 ∨ k = 8 ∨ k = 9 := by omega
  unfold wpX_worked
  rcases c with rfl | rfl | rfl | rfl | rfl | rfl | rfl | rfl
  · (repeat (first | refine br_t (by decide) ?_ | refine br_f (by decide) ?_))
    exact h
  · (repeat (first | refine br_t (by decide) ?_ | refine br_f (by decide) ?_))
    exact h
  · (repeat (first | refine br_t (by decide) ?_ | refine br_f (by decide) ?_))
    exact h
  · (repeat (first | refine br_t (by decide) ?_ | refine br_f (by decide) ?_))
    have h' : post (if y ≤ x then 0 else 1) := h
    exact br_c (fun c => by rw [if_pos c] at h'; exact h') (fun c => by rw [if_neg c] at h'; exact h')
  · (repeat (first | refine br_t (by decide) ?_ | refine br_f (by decide) ?_))
    have h' : post (if x = y then 1 else 0) := h
    exact br_c (fun c => by rw [if_pos c] at h'; exact h') (fun c => by rw [if_neg c] at h'; exact h')
  · (repeat (first | refine br_t (by decide) ?_ | refine br_f (by decide) ?_))
    have h' : post (if x = 0 then 0 else if y = 0 then 0 else 1) := h
    exact br_c (fun c => by rw [if_pos c] at h'; exact h') (fun c => by
      rw [if_neg c] at h'
      exact br_c (fun c => by rw [if_pos c] at h'; exact h') (fun c => by rw [if_neg c] at h'; exact h'))
  · (repeat (first | refine br_t (by decide) ?_ | refine br_f (by decide) ?_))
    have h' : post (if x = 0 then (if y = 0 then 0 else 1) else 1) := h
    exact br_c (fun c => by
      rw [if_pos c] at h'
      exact br_c (fun c => by rw [if_pos c] at h'; exact h') (fun c => by rw [if_neg c] at h'; exact h')) (fun c => by rw [if_neg c] at h'; exact h')
  · (repeat (first | refine br_t (by decide) ?_ | refine br_f (by decide) ?_))
    have h' : post (if x = 0 then 1 else 0) := h
    exact br_c (fun c => by rw [if_pos c] at h'; exact h') (fun c => by rw [if_neg c] at h'; exact h')
theorem rx_216 (l j : Nat) : 216 * nI l + nI j = nI (216 * l + j) := by
  rw [show (216 : Int32) = nI 216 from rfl, pk_mul, nI_add]
theorem rx_1296 (j : Nat) : 1296 + nI j = nI (1296 + j) := by
  rw [show (1296 : Int32) = nI 1296 from rfl, nI_add]
theorem rx_place {post : Int32 → Prop} {l j : Nat} (h : post (nI (216 * l + j))) : wpX_place post (nI l) (nI j) := by
  unfold wpX_place
  rw [rx_216]
  exact h
theorem rx_cellAt {post : Int32 → Prop} {t r c : Nat} (h : post (nI (18 * t + 3 * r + c))) : wpX_cellAt post (nI t) (nI r) (nI c) := by
  unfold wpX_cellAt
  rw [show (18 : Int32) = nI 18 from rfl, show (3 : Int32) = nI 3 from rfl, pk_mul, pk_mul, nI_add, nI_add]
  exact h
/-- n places from b on filled by f -/
def rx_fl (a : Nat → Int32) (b n : Nat) (f : Nat → Int32) : Nat → Int32 := fun x => if b ≤ x ∧ x < b + n then f (x - b) else a x
theorem rx_fl_0 {a : Nat → Int32} {b : Nat} {f : Nat → Int32} : rx_fl a b 0 f = a := by
  funext x
  exact if_neg (by omega)
theorem rx_fl_s {a : Nat → Int32} {b n : Nat} {f : Nat → Int32} {y : Int32} (h : y = f n) : upd (rx_fl a b n f) (b + n) y = rx_fl a b (n + 1) f := by
  funext x
  unfold upd rx_fl
  by_cases c : x = b + n
  · rw [if_pos c, if_pos (by omega), h]; exact congrArg f (by omega)
  · rw [if_neg c]
    by_cases c2 : b ≤ x ∧ x < b + n
    · rw [if_pos c2, if_pos (by omega)]
    · rw [if_neg c2, if_neg (by omega)]
theorem rx_fl_in {a : Nat → Int32} {b n j : Nat} {f : Nat → Int32} (h : j < n) : rx_fl a b n f (b + j) = f j := by
  unfold rx_fl
  rw [if_pos (by omega)]
  exact congrArg f (by omega)
theorem rx_fl_out {a : Nat → Int32} {b n x : Nat} {f : Nat → Int32} (h : x < b ∨ b + n ≤ x) : rx_fl a b n f x = a x := if_neg (by omega)
theorem rx_fl_app {a : Nat → Int32} {b n m : Nat} {f g : Nat → Int32} (h : ∀ r, r < m → g r = f (n + r)) : rx_fl (rx_fl a b n f) (b + n) m g = rx_fl a b (n + m) f := by
  funext x
  unfold rx_fl
  by_cases c : b + n ≤ x ∧ x < b + n + m
  · rw [if_pos c, if_pos (by omega), h _ (by omega)]; exact congrArg f (by omega)
  · rw [if_neg c]
    by_cases c2 : b ≤ x ∧ x < b + n
    · rw [if_pos c2, if_pos (by omega)]
    · rw [if_neg c2, if_neg (by omega)]
theorem rx_fl_c {a : Nat → Int32} {b n : Nat} {f g : Nat → Int32} (h : ∀ r, r < n → f r = g r) : rx_fl a b n f = rx_fl a b n g := by
  funext x
  unfold rx_fl
  by_cases c : b ≤ x ∧ x < b + n
  · rw [if_pos c, if_pos c]; exact h _ (by omega)
  · rw [if_neg c, if_neg c]
/-- the lane of level tgt that a lane of a deeper level hangs on -/
def rx_la (H : Nat → Nat) (U : Nat → Nat → Nat) (tgt : Nat) : Nat → Nat → Nat → Nat
  | 0, _, j => j
  | f + 1, l, j => if l ≤ tgt then j else rx_la H U tgt f (H l) (U l j)
section
variable {sz hh oo lv dp kn fd : Int32} {rc ce kd ar bn ho tB la ro un we lo nu ti : Nat → Int32}
theorem rx_load {post : Int32 → Prop} {l L : Nat} {Wt : Nat → Nat} (hl : l < 4) (hL : la l = nI L) (hL2 : L ≤ 216) (hw : ∀ j, j < L → we (216 * l + j) = nI (Wt j)) (hp : post (nI (rq_sum L Wt))) : wpX_load post (sz, hh, oo, lv, dp, kn, fd, rc, ce, kd, ar, bn, ho, tB, la, ro, un, we, lo, nu, ti) (nI l) := by
  have X : ∀ m j, j + m = L → ∀ n, m < n → wX_load_4 post (nI l) sz hh oo lv dp kn fd rc ce kd ar bn ho tB la ro un we lo nu ti n (nI (rq_sum j Wt)) (nI j) := by
    intro m
    induction m with
    | zero =>
      intro j hj n hn
      obtain ⟨n, rfl⟩ : ∃ n', n = n' + 1 := ⟨n - 1, by omega⟩
      have e : j = L := by omega
      subst e
      refine ⟨vp_in_nI hl (by decide), br_t ?_ hp⟩
      rw [nI_clamp (by omega), hL]
      exact Int32.le_refl _
    | succ m ih =>
      intro j hj n hn
      obtain ⟨n, rfl⟩ : ∃ n', n = n' + 1 := ⟨n - 1, by omega⟩
      refine ⟨vp_in_nI hl (by decide), br_f ?_ (rx_place ⟨vp_in_nI (by omega) (by decide), nm_r (e' := nI (rq_sum (j + 1) Wt)) ?_ (nm_r (nI_1 j) (ih (j + 1) (by omega) n (by omega)))⟩)⟩
      · rw [nI_clamp (by omega), hL]
        exact nI_ge (by omega) (by omega)
      · rw [nI_clamp (by omega), hw j (by omega), nI_add]; rfl
  unfold wpX_load
  exact ⟨L + 1, X L 0 (by omega) (L + 1) (by omega)⟩
theorem rx_la_G {H : Nat → Nat} {U : Nat → Nat → Nat} {tgt : Nat} {G : Nat → Nat → Prop} (hG : ∀ l j, G l j → tgt < l → G (H l) (U l j)) : ∀ f l j, G l j → ∃ l', G l' (rx_la H U tgt f l j) := by
  intro f
  induction f with
  | zero => intro l j h; exact ⟨l, h⟩
  | succ f ih =>
    intro l j h
    unfold rx_la
    by_cases c : l ≤ tgt
    · rw [if_pos c]; exact ⟨l, h⟩
    · rw [if_neg c]; exact ih _ _ (hG l j h (by omega))
theorem rx_laneAt {post : Int32 → Prop} {H : Nat → Nat} {U : Nat → Nat → Nat} {tgt l j : Nat} {G : Nat → Nat → Prop} (hG : ∀ l j, G l j → l ≤ 3 ∧ j < 216 ∧ (tgt < l → ho l = nI (H l) ∧ un (216 * l + j) = nI (U l j) ∧ G (H l) (U l j))) (h : G l j) (ht : tgt ≤ 3) (hp : post (nI (rx_la H U tgt 3 l j))) : wpX_laneAt post (sz, hh, oo, lv, dp, kn, fd, rc, ce, kd, ar, bn, ho, tB, la, ro, un, we, lo, nu, ti) (nI tgt) (nI l) (nI j) := by
  have X : ∀ f c, c + f = 3 → ∀ l j, G l j → post (nI (rx_la H U tgt f l j)) → ∀ n, f < n → wX_laneAt_9 post (nI tgt) sz hh oo lv dp kn fd rc ce kd ar bn ho tB la ro un we lo nu ti n (nI l) (nI j) (nI c) := by
    intro f
    induction f with
    | zero =>
      intro c hc l j h hp n hn
      obtain ⟨n, rfl⟩ : ∃ n', n = n' + 1 := ⟨n - 1, by omega⟩
      exact br_t (nI_le (a := 3) (by omega) (by omega)) hp
    | succ f ih =>
      intro c hc l j h hp n hn
      obtain ⟨n, rfl⟩ : ∃ n', n = n' + 1 := ⟨n - 1, by omega⟩
      obtain ⟨g1, g2, g3⟩ := hG l j h
      unfold rx_la at hp
      refine br_f (nI_ge (b := 3) (by omega) (by decide)) ?_
      by_cases cl : l ≤ tgt
      · rw [if_pos cl] at hp
        exact br_t (nI_le cl (by omega)) hp
      · rw [if_neg cl] at hp
        obtain ⟨g4, g5, g6⟩ := g3 (by omega)
        refine br_f (nI_ge (by omega) (by omega)) (rx_place ⟨vp_in_nI (by omega) (by decide), nm_r (e' := nI (U l j)) ?_ ⟨vp_in_nI (by omega) (by decide), nm_r (e' := nI (H l)) ?_ (nm_r (nI_1 c) (ih (c + 1) (by omega) _ _ g6 hp n (by omega)))⟩⟩)
        · rw [nI_clamp (by omega), g5]
        · rw [nI_clamp (by omega), g4]
  unfold wpX_laneAt
  exact ⟨4, X 3 0 rfl l j h hp 4 (by decide)⟩
theorem rx_number {post : Int32 → Prop} {H : Nat → Nat} {U : Nat → Nat → Nat} {tgt l j e : Nat} {G : Nat → Nat → Prop} (hG : ∀ l j, G l j → l ≤ 3 ∧ j < 216 ∧ (tgt < l → ho l = nI (H l) ∧ un (216 * l + j) = nI (U l j) ∧ G (H l) (U l j))) (h : G l j) (ht : tgt ≤ 3) (he : e < 7) (hlo : lo e = nI tgt) (hp : post (nu (216 * e + rx_la H U tgt 3 l j))) : wpX_number post (sz, hh, oo, lv, dp, kn, fd, rc, ce, kd, ar, bn, ho, tB, la, ro, un, we, lo, nu, ti) (nI e) (nI l) (nI j) := by
  unfold wpX_number
  obtain ⟨l', g⟩ := rx_la_G (H := H) (U := U) (tgt := tgt) (G := G) (fun l j h c => ((hG l j h).2.2 c).2.2) 3 l j h
  have g2 := (hG _ _ g).2.1
  refine ⟨vp_in_nI he (by decide), ?_⟩
  rw [nI_clamp (n := e) (by omega), hlo]
  refine rx_laneAt hG h ht ?_
  rw [rx_216, nI_clamp (by omega)]
  exact ⟨vp_in_nI (by omega) (by decide), hp⟩
theorem rx_pushCell {post : SX → Prop} {l L d c t : Nat} {R : Nat → Nat} (hl : l < 4) (hd : d < 7) (hL : la l = nI L) (hL2 : L ≤ 216) (ht : tB l = nI t) (ht3 : t < 3) (hc : c < 3) (hr : ∀ j, j < L → ro (216 * l + j) = nI (R j) ∧ R j < 6) (hp : post (sz, hh, oo, lv, nI (d + 1), kn, fd, rc, ce, kd, ar, bn, ho, tB, la, ro, un, we, upd lo d (nI l), rx_fl nu (216 * d) L (fun j => ce (18 * t + 3 * R j + c)), ti)) : wpX_pushCell post (sz, hh, oo, lv, nI d, kn, fd, rc, ce, kd, ar, bn, ho, tB, la, ro, un, we, lo, nu, ti) (nI l) (nI c) := by
  have X : ∀ m j, j + m = L → ∀ n, m < n → wX_pushCell_12 post (nI l) (nI c) sz hh oo lv (nI d) kn fd n (nI j) rc ce kd ar bn ho tB la ro un we (upd lo d (nI l)) (rx_fl nu (216 * d) j (fun j => ce (18 * t + 3 * R j + c))) ti := by
    intro m
    induction m with
    | zero =>
      intro j hj n hn
      obtain ⟨n, rfl⟩ : ∃ n', n = n' + 1 := ⟨n - 1, by omega⟩
      have e : j = L := by omega
      subst e
      refine ⟨vp_in_nI hl (by decide), br_t ?_ (nm_r (nI_1 d) hp)⟩
      rw [nI_clamp (by omega), hL]
      exact Int32.le_refl _
    | succ m ih =>
      intro j hj n hn
      obtain ⟨n, rfl⟩ : ∃ n', n = n' + 1 := ⟨n - 1, by omega⟩
      obtain ⟨r1, r2⟩ := hr j (by omega)
      refine ⟨vp_in_nI hl (by decide), br_f ?_ (rx_place ⟨vp_in_nI (by omega) (by decide), nm_r (e' := nI (R j)) ?_ ⟨vp_in_nI hl (by decide), ?_⟩⟩)⟩
      · rw [nI_clamp (by omega), hL]
        exact nI_ge (by omega) (by omega)
      · rw [nI_clamp (by omega), r1]
      · rw [nI_clamp (n := l) (by omega), ht, rx_216, nI_clamp (n := 216 * d + j) (by omega)]
        refine rx_cellAt ⟨vp_in_nI (by omega) (by decide), vp_in_nI (by omega) (by decide), nm_r (e' := rx_fl nu (216 * d) (j + 1) (fun j => ce (18 * t + 3 * R j + c))) ?_ (nm_r (nI_1 j) (ih (j + 1) (by omega) n (by omega)))⟩
        rw [nI_clamp (by omega)]
        exact rx_fl_s rfl
  unfold wpX_pushCell
  refine ⟨vp_in_nI hd (by decide), nm_r (e' := upd lo d (nI l)) (by rw [nI_clamp (by omega)]) ⟨L + 1, ?_⟩⟩
  have := X L 0 (by omega) (L + 1) (by omega)
  rw [rx_fl_0] at this
  exact this
theorem rx_settle {post : SX → Prop} {l L e : Nat} (hl : l < 4) (he : e < 6) (hL : la l = nI L) (hL2 : L ≤ 216) (hp : post (sz, hh, oo, lv, dp, kn, fd, rc, ce, kd, ar, bn, ho, tB, la, ro, un, we, upd lo e (nI l), rx_fl nu (216 * e) L (fun j => nu (1296 + j)), ti)) : wpX_settle post (sz, hh, oo, lv, dp, kn, fd, rc, ce, kd, ar, bn, ho, tB, la, ro, un, we, lo, nu, ti) (nI e) (nI l) := by
  have X : ∀ m j, j + m = L → ∀ n, m < n → wX_settle_9 post (nI e) (nI l) sz hh oo lv dp kn fd n (nI j) rc ce kd ar bn ho tB la ro un we (upd lo e (nI l)) (rx_fl nu (216 * e) j (fun j => nu (1296 + j))) ti := by
    intro m
    induction m with
    | zero =>
      intro j hj n hn
      obtain ⟨n, rfl⟩ : ∃ n', n = n' + 1 := ⟨n - 1, by omega⟩
      have e : j = L := by omega
      subst e
      refine ⟨vp_in_nI hl (by decide), br_t ?_ hp⟩
      rw [nI_clamp (by omega), hL]
      exact Int32.le_refl _
    | succ m ih =>
      intro j hj n hn
      obtain ⟨n, rfl⟩ : ∃ n', n = n' + 1 := ⟨n - 1, by omega⟩
      refine ⟨vp_in_nI hl (by decide), br_f ?_ ?_⟩
      · rw [nI_clamp (by omega), hL]
        exact nI_ge (by omega) (by omega)
      · rw [rx_216, rx_1296, nI_clamp (n := 216 * e + j) (by omega), nI_clamp (n := 1296 + j) (by omega)]
        refine ⟨vp_in_nI (by omega) (by decide), vp_in_nI (by omega) (by decide), nm_r (e' := rx_fl nu (216 * e) (j + 1) (fun j => nu (1296 + j))) (rx_fl_s (rx_fl_out (by omega))) (nm_r (nI_1 j) (ih (j + 1) (by omega) n (by omega)))⟩
  unfold wpX_settle
  refine ⟨vp_in_nI (by omega) (by decide), nm_r (e' := upd lo e (nI l)) (by rw [nI_clamp (by omega)]) ⟨L + 1, ?_⟩⟩
  have := X L 0 (by omega) (L + 1) (by omega)
  rw [rx_fl_0] at this
  exact this
end
end
section
/-! the component's walk: combine, leaveOut -/
/-- how many below j are kept -/
def rx_rk (kp : Nat → Bool) : Nat → Nat
  | 0 => 0
  | j + 1 => if kp j = true then rx_rk kp j + 1 else rx_rk kp j
theorem rx_rk_le (kp : Nat → Bool) : ∀ j, rx_rk kp j ≤ j := by
  intro j
  induction j with
  | zero => exact Nat.le_refl 0
  | succ j ih => unfold rx_rk; split <;> omega
theorem rx_rk_mono (kp : Nat → Bool) (i : Nat) : ∀ m, rx_rk kp i ≤ rx_rk kp (i + m) := by
  intro m
  induction m with
  | zero => exact Nat.le_refl _
  | succ m ih =>
    have : rx_rk kp (i + m) ≤ rx_rk kp (i + m + 1) := by
      show _ ≤ if kp (i + m) = true then rx_rk kp (i + m) + 1 else rx_rk kp (i + m)
      split <;> omega
    exact Nat.le_trans ih this
theorem rx_rk_lt {kp : Nat → Bool} {i j : Nat} (h : kp i = true) (hij : i < j) : rx_rk kp i < rx_rk kp j := by
  obtain ⟨m, rfl⟩ : ∃ m, j = (i + 1) + m := ⟨j - (i + 1), by omega⟩
  have := rx_rk_mono kp (i + 1) m
  have e : rx_rk kp (i + 1) = rx_rk kp i + 1 := if_pos h
  omega
/-- the places from b on, of those below j the kept ones moved together -/
def rx_CP (b : Nat) (kp : Nat → Bool) (j : Nat) (a a' : Nat → Int32) : Prop :=
  (∀ q, q < j → kp q = true → a' (b + rx_rk kp q) = a (b + q)) ∧ (∀ x, x < b ∨ b + rx_rk kp j ≤ x → a' x = a x)
theorem rx_CP_0 {b : Nat} {kp : Nat → Bool} {a : Nat → Int32} : rx_CP b kp 0 a a := ⟨fun q h => absurd h (Nat.not_lt_zero q), fun _ _ => rfl⟩
theorem rx_CP_n {b j : Nat} {kp : Nat → Bool} {a a' : Nat → Int32} (h : rx_CP b kp j a a') (hk : kp j = false) : rx_CP b kp (j + 1) a a' := by
  have e : rx_rk kp (j + 1) = rx_rk kp j := if_neg (by rw [hk]; decide)
  refine ⟨fun q hq hkq => ?_, fun x hx => h.2 x (by omega)⟩
  by_cases c : q = j
  · rw [c, hk] at hkq; exact absurd hkq (by decide)
  · exact h.1 q (by omega) hkq
theorem rx_CP_y {b j : Nat} {kp : Nat → Bool} {a a' : Nat → Int32} (h : rx_CP b kp j a a') (hk : kp j = true) : rx_CP b kp (j + 1) a (upd a' (b + rx_rk kp j) (a' (b + j))) := by
  have e : rx_rk kp (j + 1) = rx_rk kp j + 1 := if_pos hk
  have hle := rx_rk_le kp j
  refine ⟨fun q hq hkq => ?_, fun x hx => ?_⟩
  · by_cases c : q = j
    · rw [c, pk_us]; exact h.2 _ (by omega)
    · have := rx_rk_lt hkq (show q < j by omega)
      rw [pk_un (by omega)]; exact h.1 q (by omega) hkq
  · rw [pk_un (by omega)]; exact h.2 x (by omega)
section
variable {sz hh oo lv dp kn fd : Int32} {rc ce kd ar bn ho tB la ro un we lo nu ti : Nat → Int32}
theorem rx_comb {post : SX → Prop} {k f l L t1 t2 tk : Nat} {H : Nat → Nat} {U : Nat → Nat → Nat} {G : Nat → Nat → Prop} {val : Nat → Int32} (h2 : 2 ≤ k) (h9 : k ≤ 9) (hl : l < 4) (htk : tk = 1 ∨ tk = 2) (hf : f + tk ≤ 6) (hlo1 : lo f = nI t1) (hlo2 : tk = 2 → lo (f + 1) = nI t2) (hL : la l = nI L) (hL2 : L ≤ 216) (ht1 : t1 ≤ 3) (ht2 : t2 ≤ 3)
    (hG : ∀ l j, G l j → l ≤ 3 ∧ j < 216 ∧ (t1 < l ∨ t2 < l → ho l = nI (H l) ∧ un (216 * l + j) = nI (U l j) ∧ G (H l) (U l j))) (hGj : ∀ j, j < L → G l j)
    (hv : ∀ j, val j = rq_op k (nu (216 * f + rx_la H U t1 3 l j)) (if tk = 2 then nu (216 * (f + 1) + rx_la H U t2 3 l j) else 0))
    (hp : post (sz, hh, oo, lv, nI (f + 1), kn, fd, rc, ce, kd, ar, bn, ho, tB, la, ro, un, we, upd lo f (nI l), rx_fl (rx_fl nu 1296 L val) (216 * f) L (fun j => rx_fl nu 1296 L val (1296 + j)), ti)) : ∃ n, wX_combine_51 post (nI k) (nI tk) (nI f) (nI l) sz hh oo lv dp kn fd n 0 rc ce kd ar bn ho tB la ro un we lo nu ti := by
  have lt1 : ∀ j, j < L → rx_la H U t1 3 l j < 216 := fun j hj => by
    obtain ⟨l', g⟩ := rx_la_G (H := H) (U := U) (tgt := t1) (G := G) (fun l j h c => ((hG l j h).2.2 (Or.inl c)).2.2) 3 l j (hGj j hj)
    exact (hG _ _ g).2.1
  have lt2 : ∀ j, j < L → rx_la H U t2 3 l j < 216 := fun j hj => by
    obtain ⟨l', g⟩ := rx_la_G (H := H) (U := U) (tgt := t2) (G := G) (fun l j h c => ((hG l j h).2.2 (Or.inr c)).2.2) 3 l j (hGj j hj)
    exact (hG _ _ g).2.1
  have X : ∀ m j, j + m = L → ∀ n, m < n → wX_combine_51 post (nI k) (nI tk) (nI f) (nI l) sz hh oo lv dp kn fd n (nI j) rc ce kd ar bn ho tB la ro un we lo (rx_fl nu 1296 j val) ti := by
    intro m
    induction m with
    | zero =>
      intro j hj n hn
      obtain ⟨n, rfl⟩ : ∃ n', n = n' + 1 := ⟨n - 1, by omega⟩
      have e : j = L := by omega
      subst e
      refine ⟨vp_in_nI hl (by decide), br_t ?_ (rx_settle hl (by omega) hL hL2 (nm_r (nI_1 f) hp))⟩
      rw [nI_clamp (by omega), hL]
      exact Int32.le_refl _
    | succ m ih =>
      intro j hj n hn
      obtain ⟨n, rfl⟩ : ∃ n', n = n' + 1 := ⟨n - 1, by omega⟩
      have g := hGj j (by omega)
      have l1 := lt1 j (by omega)
      have l2 := lt2 j (by omega)
      have fin : ∀ y : Int32, y = val j → vp_in (nI (1296 + j)) 1512 ∧ ∀ nu' : Nat → Int32, nu' = upd (rx_fl nu 1296 j val) (nI (1296 + j)).toNatClampNeg y → ∀ x' : Int32, x' = nI j + 1 → wX_combine_51 post (nI k) (nI tk) (nI f) (nI l) sz hh oo lv dp kn fd n x' rc ce kd ar bn ho tB la ro un we lo nu' ti := fun y hy =>
        ⟨vp_in_nI (by omega) (by decide), nm_r (e' := rx_fl nu 1296 (j + 1) val) (by rw [nI_clamp (by omega)]; exact rx_fl_s hy) (nm_r (nI_1 j) (ih (j + 1) (by omega) n (by omega)))⟩
      refine ⟨vp_in_nI hl (by decide), br_f ?_ ?_⟩
      · rw [nI_clamp (by omega), hL]
        exact nI_ge (by omega) (by omega)
      · refine rx_number (fun l j h => ⟨(hG l j h).1, (hG l j h).2.1, fun c => (hG l j h).2.2 (Or.inl c)⟩) g ht1 (by omega) hlo1 ?_
        unfold wX_combine_94
        rw [rx_fl_out (by omega), rx_1296]
        rcases htk with e1 | e2
        · refine br_f (by rw [e1]; decide) (rx_worked h2 h9 _ _ (fin _ ?_))
          rw [hv j, if_neg (by omega)]
        · refine br_t (by rw [e2]; rfl) ?_
          rw [nI_1 f]
          refine rx_number (fun l j h => ⟨(hG l j h).1, (hG l j h).2.1, fun c => (hG l j h).2.2 (Or.inr c)⟩) g ht2 (by omega) (hlo2 e2) ?_
          rw [rx_fl_out (by omega)]
          refine rx_worked h2 h9 _ _ (fin _ ?_)
          rw [hv j, if_pos e2]
  have := X L 0 (by omega) (L + 1) (by omega)
  rw [rx_fl_0] at this
  exact ⟨L + 1, this⟩
theorem rx_combine {post : SX → Prop} {k f l L t1 t2 w : Nat} {H : Nat → Nat} {U : Nat → Nat → Nat} {G : Nat → Nat → Prop} {val : Nat → Int32} (h2 : 2 ≤ k) (h9 : k ≤ 9) (hl : l < 4) (hw : w = f + rq_tk k) (hf : w ≤ 6) (hlo1 : lo f = nI t1) (hlo2 : k ≤ 8 → lo (f + 1) = nI t2) (hL : la l = nI L) (hL2 : L ≤ 216) (ht1 : t1 ≤ 3) (ht2 : t2 ≤ 3) (hlm : l = if k ≤ 8 ∧ t1 < t2 then t2 else t1)
    (hG : ∀ l j, G l j → l ≤ 3 ∧ j < 216 ∧ (t1 < l ∨ t2 < l → ho l = nI (H l) ∧ un (216 * l + j) = nI (U l j) ∧ G (H l) (U l j))) (hGj : ∀ j, j < L → G l j)
    (hv : ∀ j, val j = rq_op k (nu (216 * f + rx_la H U t1 3 l j)) (if rq_tk k = 2 then nu (216 * (f + 1) + rx_la H U t2 3 l j) else 0))
    (hp : post (sz, hh, oo, lv, nI (f + 1), kn, fd, rc, ce, kd, ar, bn, ho, tB, la, ro, un, we, upd lo f (nI l), rx_fl (rx_fl nu 1296 L val) (216 * f) L (fun j => rx_fl nu 1296 L val (1296 + j)), ti)) : wpX_combine post (sz, hh, oo, lv, nI w, kn, fd, rc, ce, kd, ar, bn, ho, tB, la, ro, un, we, lo, nu, ti) (nI k) := by
  have htk : rq_tk k = 1 ∨ rq_tk k = 2 := by
    by_cases c : k ≤ 8
    · exact Or.inr (rq_tk2 k h2 c)
    · have : k = 9 := by omega
      rw [this]; exact Or.inl rfl
  have hc := fun hlx : lo f = nI t1 => rx_comb (dp := nI w) (sz := sz) (hh := hh) (oo := oo) (lv := lv) (kn := kn) (fd := fd) (rc := rc) (ce := ce) (kd := kd) (ar := ar) (bn := bn) (tB := tB) (ro := ro) (we := we) (ti := ti) h2 h9 hl htk (by omega) hlx (fun z => hlo2 (by
    by_cases c : k ≤ 8
    · exact c
    · have : k = 9 := by omega
      rw [this] at z; exact absurd z (by decide))) hL hL2 ht1 ht2 hG hGj hv hp
  have hc := hc hlo1
  unfold wpX_combine
  have e0 : w - rq_tk k = f := by omega
  refine rx_taken (by omega) (nm_r (e' := nI f) (by rw [pk_sub (by omega), e0]) ⟨vp_in_nI (by omega) (by decide), nm_r (e' := nI t1) (by rw [nI_clamp (by omega), hlo1]) ?_⟩)
  by_cases c8 : k ≤ 8
  · have t2' := rq_tk2 k h2 c8
    refine br_t (by rw [t2']; rfl) ?_
    rw [nI_1 f, nI_clamp (n := f + 1) (by omega), hlo2 c8]
    refine ⟨vp_in_nI (by omega) (by decide), ?_⟩
    by_cases ct : t1 < t2
    · rw [if_pos ⟨c8, ct⟩] at hlm
      rw [hlm] at hc
      exact br_f (nI_ge ct (by omega)) ⟨vp_in_nI (by omega) (by decide), nm_e hc⟩
    · rw [if_neg (fun z => ct z.2)] at hlm
      rw [hlm] at hc
      exact br_t (nI_le (by omega) (by omega)) hc
  · have k9 : k = 9 := by omega
    rw [if_neg (fun z => c8 z.1)] at hlm
    rw [hlm] at hc
    exact br_f (by rw [k9]; decide) hc
theorem rx_leaveOut {post : SX → Prop} {e o t L : Nat} {Lv H : Nat → Nat} {U : Nat → Nat → Nat} {kp : Nat → Bool} (ho3 : o ≤ 3) (he : e < 6) (hlo : lo e = nI t) (ht : t ≤ 3) (hL : Lv o = L) (hS : ∀ l, l ≤ o → la l = nI (Lv l) ∧ Lv l ≤ 216) (hS2 : ∀ l, t < l → l ≤ o → ho l = nI (H l) ∧ H l < l ∧ ∀ j, j < Lv l → un (216 * l + j) = nI (U l j) ∧ U l j < Lv (H l))
    (hkp : ∀ j, kp j = if nu (216 * e + rx_la H U t 3 o j) = 0 then false else true)
    (hp : ∀ ro' un' we' : Nat → Int32, rx_CP (216 * o) kp L ro ro' → rx_CP (216 * o) kp L un un' → rx_CP (216 * o) kp L we we' → post (sz, hh, oo, nI o, nI e, kn, fd, rc, ce, kd, ar, bn, ho, tB, upd la o (nI (rx_rk kp L)), ro', un', we', lo, nu, ti)) : wpX_leaveOut post (sz, hh, oo, nI o, nI (e + 1), kn, fd, rc, ce, kd, ar, bn, ho, tB, la, ro, un, we, lo, nu, ti) := by
  have lao := (hS o (Nat.le_refl o)).1
  have la2 := (hS o (Nat.le_refl o)).2
  have X : ∀ m j, j + m = L → ∀ n, m < n → ∀ ro' un' we' : Nat → Int32, rx_CP (216 * o) kp j ro ro' → rx_CP (216 * o) kp j un un' → rx_CP (216 * o) kp j we we' → wX_leaveOut_14 post sz hh oo (nI o) (nI e) kn fd n (nI (rx_rk kp j)) (nI j) rc ce kd ar bn ho tB la ro' un' we' lo nu ti := by
    intro m
    induction m with
    | zero =>
      intro j hj n hn ro' un' we' c1 c2 c3
      obtain ⟨n, rfl⟩ : ∃ n', n = n' + 1 := ⟨n - 1, by omega⟩
      have ej : j = L := by omega
      subst ej
      refine ⟨vp_in_nI (by omega) (by decide), br_t ?_ ⟨vp_in_nI (by omega) (by decide), nm_r (e' := upd la o (nI (rx_rk kp j))) (by rw [nI_clamp (by omega)]) (hp ro' un' we' c1 c2 c3)⟩⟩
      rw [nI_clamp (by omega), lao, hL]
      exact Int32.le_refl _
    | succ m ih =>
      intro j hj n hn ro' un' we' c1 c2 c3
      obtain ⟨n, rfl⟩ : ∃ n', n = n' + 1 := ⟨n - 1, by omega⟩
      have hrk := rx_rk_le kp j
      refine ⟨vp_in_nI (by omega) (by decide), br_f ?_ ?_⟩
      · rw [nI_clamp (by omega), lao]
        exact nI_ge (by omega) (by omega)
      · refine rx_number (G := fun l q => l ≤ o ∧ q < Lv l ∧ (l = o → j ≤ q)) (H := H) (U := U) (fun l q h => ⟨by omega, by have := (hS l h.1).2; omega, fun c => ?_⟩) ⟨Nat.le_refl o, by omega, fun _ => Nat.le_refl j⟩ ht (by omega) hlo ?_
        · obtain ⟨g1, g2, g3⟩ := h
          obtain ⟨s1, s2, s3⟩ := hS2 l c g1
          have b := (hS l g1).2
          refine ⟨s1, ?_, by omega, (s3 q g2).2, fun z => by omega⟩
          rw [c2.2 _ (by
            by_cases c : l = o
            · have := g3 c
              rw [c]; omega
            · omega)]
          exact (s3 q g2).1
        · have hk := hkp j
          by_cases cz : nu (216 * e + rx_la H U t 3 o j) = 0
          · rw [if_pos cz] at hk
            refine br_t cz (nm_r (nI_1 j) ?_)
            have er : rx_rk kp (j + 1) = rx_rk kp j := if_neg (by rw [hk]; decide)
            have := ih (j + 1) (by omega) n (by omega) ro' un' we' (rx_CP_n c1 hk) (rx_CP_n c2 hk) (rx_CP_n c3 hk)
            rw [er] at this
            exact this
          · rw [if_neg cz] at hk
            refine br_f cz (rx_place (rx_place ?_))
            have er : rx_rk kp (j + 1) = rx_rk kp j + 1 := if_pos hk
            have v1 : vp_in (nI (216 * o + j)) 864 := vp_in_nI (by omega) (by decide)
            have v2 : vp_in (nI (216 * o + rx_rk kp j)) 864 := vp_in_nI (by omega) (by decide)
            rw [nI_clamp (n := 216 * o + j) (by omega), nI_clamp (n := 216 * o + rx_rk kp j) (by omega)]
            have := ih (j + 1) (by omega) n (by omega) _ _ _ (rx_CP_y c1 hk) (rx_CP_y c2 hk) (rx_CP_y c3 hk)
            rw [er] at this
            exact ⟨v1, v2, nm_e ⟨v1, v2, nm_e ⟨v1, v2, nm_e (nm_r (nI_1 _) (nm_r (nI_1 j) this))⟩⟩⟩
  unfold wpX_leaveOut
  exact nm_r (nI_pred e) ⟨L + 1, X L 0 (by omega) (L + 1) (by omega) ro un we rx_CP_0 rx_CP_0 rx_CP_0⟩
end
end
section
/-! the component's walk: the end of a block -/
/-- the numbers of m lanes from f on, the last first -/
def rx_pl (val : Nat → Int32) (f : Nat) : Nat → List Int32
  | 0 => []
  | m + 1 => val (f + m) :: rx_pl val f m
theorem rx_pl_eq (val : Nat → Int32) (f : Nat) : ∀ m, rx_pl val f m = ((List.range' f m).map val).reverse := by
  intro m
  induction m with
  | zero => rfl
  | succ m ih =>
    rw [List.range'_concat, List.map_append, List.reverse_append, ← ih, Nat.one_mul]
    rfl
theorem rx_pl_mem (val : Nat → Int32) (f : Nat) (x : Int32) : ∀ m, x ∈ rx_pl val f m ↔ ∃ q, q < m ∧ val (f + q) = x := by
  intro m
  induction m with
  | zero => exact ⟨fun h => absurd h List.not_mem_nil, fun ⟨q, hq, _⟩ => absurd hq (Nat.not_lt_zero q)⟩
  | succ m ih =>
    show x ∈ val (f + m) :: rx_pl val f m ↔ _
    rw [List.mem_cons, ih]
    constructor
    · rintro (h | ⟨q, hq, e⟩)
      · exact ⟨m, by omega, h.symm⟩
      · exact ⟨q, by omega, e⟩
    · rintro ⟨q, hq, e⟩
      by_cases c : q = m
      · rw [c] at e; exact Or.inl e.symm
      · exact Or.inr ⟨q, by omega, e⟩
theorem rx_range (f t : Nat) (h : f ≤ t) : ∀ L, t ≤ L → (List.range L).filter (fun j => decide (f ≤ j) && decide (j < t)) = List.range' f (t - f) := by
  intro L
  induction L generalizing t with
  | zero => intro ht; rw [show t - f = 0 by omega]; rfl
  | succ L ih =>
    intro ht
    rw [List.range_succ, List.filter_append]
    by_cases c : t ≤ L
    · rw [ih t h c, List.filter_cons_of_neg (by simp; omega)]
      exact List.append_nil _
    · have et : t = L + 1 := by omega
      by_cases cf : f ≤ L
      · have e1 : (List.range L).filter (fun j => decide (f ≤ j) && decide (j < t)) = (List.range L).filter (fun j => decide (f ≤ j) && decide (j < L)) := by
          refine List.filter_congr (fun x hx => ?_)
          have := List.mem_range.mp hx
          rw [decide_eq_true (show x < t by omega), decide_eq_true (show x < L by omega)]
        rw [e1, ih L cf (Nat.le_refl L), List.filter_cons_of_pos (by simp; omega), show t - f = (L - f) + 1 by omega, List.range'_concat, Nat.one_mul, show f + (L - f) = L by omega]
        rfl
      · have ef : f = L + 1 := by omega
        rw [show t - f = 0 by omega, List.filter_cons_of_neg (by simp; omega)]
        have : (List.range L).filter (fun j => decide (f ≤ j) && decide (j < t)) = [] := by
          rw [List.filter_eq_nil_iff]
          intro x hx
          have := List.mem_range.mp hx
          simp; omega
        rw [this]; rfl
section
variable {sz hh oo lv dp kn fd : Int32} {rc ce kd ar bn ho tB la ro un we lo nu ti : Nat → Int32}
theorem rx_gath {post : Int32 → Prop} {k e f t tgt o : Nat} {H : Nat → Nat} {U : Nat → Nat → Nat} {G : Nat → Nat → Prop} {val : Nat → Int32} {x4 : Int32} (hk : 12 ≤ k) (h17 : k ≤ 17) (hft : f ≤ t) (ht : t ≤ 216) (h14 : 14 ≤ k → x4 = nI e ∧ e < 7 ∧ lo e = nI tgt ∧ tgt ≤ 3)
    (hG : ∀ l j, G l j → l ≤ 3 ∧ j < 216 ∧ (tgt < l → ho l = nI (H l) ∧ un (216 * l + j) = nI (U l j) ∧ G (H l) (U l j))) (hGj : ∀ j, f ≤ j → j < t → G o j)
    (hv : 14 ≤ k → ∀ j, f ≤ j → j < t → nu (216 * e + rx_la H U tgt 3 o j) = val j) (hp : post (rq_gth k ((List.range' f (t - f)).map val))) : wpX_gathered post (sz, hh, oo, nI o, dp, kn, fd, rc, ce, kd, ar, bn, ho, tB, la, ro, un, we, lo, nu, ti) (nI k) x4 (nI f) (nI t) := by
  unfold wpX_gathered
  by_cases c12 : k = 12
  · refine br_t (by rw [c12]; rfl) ?_
    rw [pk_sub hft]
    unfold rq_gth at hp
    rw [if_pos c12, List.length_map, List.length_range'] at hp
    exact hp
  · refine br_f (rq_ne (c := 12) c12 (by omega) (by decide)) ?_
    by_cases c13 : k = 13
    · unfold rq_gth at hp
      rw [if_neg c12, if_pos c13, List.length_map, List.length_range'] at hp
      refine br_t (by rw [c13]; rfl) ?_
      by_cases c : t - f = 0
      · rw [if_pos c] at hp
        exact br_t (nI_le (by omega) (by omega)) hp
      · rw [if_neg c] at hp
        exact br_f (nI_ge (by omega) (by omega)) hp
    · refine br_f (rq_ne (c := 13) c13 (by omega) (by decide)) ⟨t + 1, ?_⟩
      unfold rq_gth at hp
      rw [if_neg c12, if_neg c13, ← rx_pl_eq] at hp
      obtain ⟨rfl, he, hlo, htg⟩ := h14 (by omega)
      have hv := hv (by omega)
      have num : ∀ (Q : Int32 → Prop) j, f ≤ j → j < t → Q (val j) → wpX_number Q (sz, hh, oo, nI o, dp, kn, fd, rc, ce, kd, ar, bn, ho, tB, la, ro, un, we, lo, nu, ti) (nI e) (nI o) (nI j) := fun Q j h1 h2 h3 => by
        refine rx_number hG (hGj j h1 h2) htg he hlo ?_
        rw [hv j h1 h2]; exact h3
      have among : ∀ (Q : Int32 → Prop) (x : Int32) m, f + m ≤ t → (x ∈ rx_pl val f m → Q 1) → (x ∉ rx_pl val f m → Q 0) → wpX_isAmong Q (sz, hh, oo, nI o, dp, kn, fd, rc, ce, kd, ar, bn, ho, tB, la, ro, un, we, lo, nu, ti) (nI e) (nI f) (nI (f + m)) x := by
        intro Q x m hm h1 h0
        have Y : ∀ d q, q + d = m → (∀ p, p < q → val (f + p) ≠ x) → ∀ n, d < n → wX_isAmong_3 Q (nI e) (nI (f + m)) x sz hh oo (nI o) dp kn fd rc ce kd ar bn ho tB la ro un we lo nu ti n (nI (f + q)) := by
          intro d
          induction d with
          | zero =>
            intro q hq hne n hn
            obtain ⟨n, rfl⟩ : ∃ n', n = n' + 1 := ⟨n - 1, by omega⟩
            refine br_t (nI_le (by omega) (by omega)) (h0 (fun z => ?_))
            obtain ⟨p, hp1, hp2⟩ := (rx_pl_mem val f x m).mp z
            exact hne p (by omega) hp2
          | succ d ih =>
            intro q hq hne n hn
            obtain ⟨n, rfl⟩ : ∃ n', n = n' + 1 := ⟨n - 1, by omega⟩
            refine br_f (nI_ge (by omega) (by omega)) (num _ (f + q) (by omega) (by omega) (br_c (fun c => h1 ((rx_pl_mem val f x m).mpr ⟨q, by omega, c⟩)) (fun c => nm_r (nI_1 _) (ih (q + 1) (by omega) (fun p hp1 => ?_) n (by omega)))))
            by_cases cp : p = q
            · rw [cp]; exact c
            · exact hne p (by omega)
        unfold wpX_isAmong
        exact ⟨m + 1, Y m 0 (by omega) (fun p hp1 => absurd hp1 (Nat.not_lt_zero p)) (m + 1) (by omega)⟩
      have X : ∀ d m, f + m + d = t → ∀ n, d < n → wX_gathered_35 post (nI k) (nI e) (nI f) (nI t) sz hh oo (nI o) dp kn fd rc ce kd ar bn ho tB la ro un we lo nu ti n (rq_rv k (rx_pl val f m)) (nI (f + m)) := by
        intro d
        induction d with
        | zero =>
          intro m hm n hn
          obtain ⟨n, rfl⟩ : ∃ n', n = n' + 1 := ⟨n - 1, by omega⟩
          have em : m = t - f := by omega
          subst em
          exact br_t (nI_le (by omega) (by omega)) hp
        | succ d ih =>
          intro m hm n hn
          obtain ⟨n, rfl⟩ : ∃ n', n = n' + 1 := ⟨n - 1, by omega⟩
          have nx := ih (m + 1) (by omega) n (by omega)
          have done : ∀ y : Int32, y = rq_rv k (rx_pl val f (m + 1)) → ∀ x6 : Int32, x6 = nI (f + m) + 1 → wX_gathered_35 post (nI k) (nI e) (nI f) (nI t) sz hh oo (nI o) dp kn fd rc ce kd ar bn ho tB la ro un we lo nu ti n y x6 := fun y hy x6 hx => by
            rw [hy, hx, nI_1]; exact nx
          have er : rq_rv k (rx_pl val f (m + 1)) = rq_ad k (rx_pl val f m) (rq_rv k (rx_pl val f m)) (val (f + m)) := rfl
          refine br_f (nI_ge (by omega) (by omega)) (num _ (f + m) (by omega) (by omega) ?_)
          have fst : (nI (f + m) = nI f) ↔ rx_pl val f m = [] := by
            rw [nI_eq (by omega) (by omega)]
            cases m with
            | zero => exact ⟨fun _ => rfl, fun _ => rfl⟩
            | succ m => exact ⟨fun z => by omega, fun z => absurd z (List.cons_ne_nil _ _)⟩
          have jn : ∀ z : Int32, (z = 0 ↔ ¬ rx_pl val f m = []) → wX_gathered_72 post (wX_gathered_35 post (nI k) (nI e) (nI f) (nI t) sz hh oo (nI o) dp kn fd rc ce kd ar bn ho tB la ro un we lo nu ti n) (nI k) (nI e) (nI f) (nI t) (nI (f + m)) z (val (f + m)) (rq_rv k (rx_pl val f m)) (nI k) sz hh oo (nI o) dp kn fd rc ce kd ar bn ho tB la ro un we lo nu ti := by
            intro z hz
            unfold wX_gathered_72 wpX_joined
            unfold rq_ad at er
            by_cases c14 : k = 14
            · rw [if_pos c14] at er
              exact br_t (by rw [c14]; rfl) (done _ er.symm)
            · rw [if_neg c14] at er
              refine br_f (rq_ne (c := 14) c14 (by omega) (by decide)) ?_
              by_cases c17 : k = 17
              · rw [if_neg (by omega), if_neg (by omega), if_pos c17] at er
                refine br_t (by rw [c17]; rfl) (among _ _ m (by omega) (fun c => br_f (by decide) (done _ ?_)) (fun c => br_t rfl (done _ ?_)))
                · rw [if_pos c] at er; exact er.symm
                · rw [if_neg c] at er; exact er.symm
              · refine br_f (rq_ne (c := 17) c17 (by omega) (by decide)) (br_c (fun cz => ?_) (fun cz => done _ ?_))
                · have ne := hz.mp cz
                  by_cases c15 : k = 15
                  · rw [if_pos c15, if_neg ne] at er
                    refine br_t (by rw [c15]; rfl) (br_c (fun c => done _ ?_) (fun c => done _ ?_))
                    · rw [if_pos c] at er; exact er.symm
                    · rw [if_neg c] at er; exact er.symm
                  · rw [if_neg c15, if_pos (show k = 16 by omega), if_neg ne] at er
                    refine br_f (rq_ne (c := 15) c15 (by omega) (by decide)) (br_c (fun c => done _ ?_) (fun c => done _ ?_))
                    · rw [if_pos c] at er; exact er.symm
                    · rw [if_neg c] at er; exact er.symm
                · have em : rx_pl val f m = [] := Classical.byContradiction (fun z2 => cz (hz.mpr z2))
                  by_cases c15 : k = 15
                  · rw [if_pos c15, if_pos em] at er; exact er.symm
                  · rw [if_neg c15, if_pos (show k = 16 by omega), if_pos em] at er; exact er.symm
          exact br_c (fun c => jn 1 ⟨fun z => absurd z (by decide), fun z => absurd (fst.mp c) z⟩) (fun c => jn 0 ⟨fun _ z => c (fst.mpr z), fun _ => rfl⟩)
      exact X (t - f) 0 (by omega) (t + 1) (by omega)
/-- the end of a block: for each lane m of the level that it hangs on, what the lanes under m come to -/
theorem rx_end {post : SX → Prop} {k e o B w tgt : Nat} {Lv H : Nat → Nat} {U : Nat → Nat → Nat} {val : Nat → Int32} (hk : 12 ≤ k) (h17 : k ≤ 17) (ho3 : o ≤ 3) (ho0 : 0 < o) (hw : e + rq_tk k = w) (hw6 : w ≤ 6) (he6 : e < 6) (hB : H o = B) (hS : ∀ l, l ≤ o → la l = nI (Lv l) ∧ Lv l ≤ 216) (hS2 : ∀ l, 0 < l → l ≤ o → ho l = nI (H l) ∧ H l < l ∧ ∀ j, j < Lv l → un (216 * l + j) = nI (U l j) ∧ U l j < Lv (H l)) (hso : ∀ i j, i ≤ j → j < Lv o → U o i ≤ U o j)
    (h14 : 14 ≤ k → lo e = nI tgt ∧ tgt ≤ 3) (hv : 14 ≤ k → ∀ j, j < Lv o → nu (216 * e + rx_la H U tgt 3 o j) = val j)
    (hp : post (sz, hh, oo, nI (o - 1), nI (e + 1), kn, fd, rc, ce, kd, ar, bn, ho, tB, la, ro, un, we, upd lo e (nI B), rx_fl (rx_fl nu 1296 (Lv B) (fun m => rq_gth k (((List.range (Lv o)).filter (fun j => decide (U o j = m))).map val))) (216 * e) (Lv B) (fun m => rx_fl nu 1296 (Lv B) (fun m => rq_gth k (((List.range (Lv o)).filter (fun j => decide (U o j = m))).map val)) (1296 + m)), ti)) : wpX_end post (sz, hh, oo, nI o, nI w, kn, fd, rc, ce, kd, ar, bn, ho, tB, la, ro, un, we, lo, nu, ti) (nI k) := by
  obtain ⟨o1, o2, o3⟩ := hS2 o ho0 (Nat.le_refl o)
  rw [hB] at o1 o2 o3
  obtain ⟨l1, l2⟩ := hS o (Nat.le_refl o)
  obtain ⟨b1, b2⟩ := hS B (by omega)
  have tk2 : rq_tk k ≤ 1 := by
    by_cases c : k ≤ 13
    · rw [rq_tkE k hk c]; omega
    · rw [rq_tk1 k (by omega)]; omega
  obtain ⟨gv, hgv⟩ : ∃ gv : Nat → Int32, gv = fun m => rq_gth k (((List.range (Lv o)).filter (fun j => decide (U o j = m))).map val) := ⟨_, rfl⟩
  rw [← hgv] at hp
  have lt1 : ∀ j, j < Lv o → rx_la H U tgt 3 o j < 216 := fun j hj => by
    obtain ⟨l', g⟩ := rx_la_G (H := H) (U := U) (tgt := tgt) (G := fun l q => l ≤ o ∧ q < Lv l) (fun l j h c => by
      obtain ⟨x1, x2, x3⟩ := hS2 l (by omega) h.1
      exact ⟨by omega, (x3 j h.2).2⟩) 3 o j ⟨Nat.le_refl o, hj⟩
    have := (hS l' g.1).2
    have := g.2
    omega
  -- x4: the top of the stack, or anything
  have X : ∀ (x4 : Int32), (14 ≤ k → x4 = nI e) → ∀ d m, m + d = Lv B → ∀ n, d < n → ∀ f, f ≤ Lv o → (∀ j, j < Lv o → (U o j < m ↔ j < f)) → wX_end_29 post (nI k) (nI B) (nI (rq_tk k)) x4 sz hh oo (nI o) (nI w) kn fd n (nI f) (nI m) rc ce kd ar bn ho tB la ro un we lo (rx_fl nu 1296 m gv) ti := by
    intro x4 hx4 d
    induction d with
    | zero =>
      intro m hm n hn f hf hfm
      obtain ⟨n, rfl⟩ : ∃ n', n = n' + 1 := ⟨n - 1, by omega⟩
      have em : m = Lv B := by omega
      subst em
      have e0 : w - rq_tk k = e := by omega
      have e1 : nI o - 1 = nI (o - 1) := pk_sub (b := 1) (by omega)
      refine ⟨vp_in_nI (by omega) (by decide), br_t ?_ (nm_r (e' := nI e) (by rw [pk_sub (by omega), e0]) (rx_settle (by omega) he6 b1 b2 (nm_r (nI_1 e) (nm_r e1 hp))))⟩
      rw [nI_clamp (by omega), b1]
      exact Int32.le_refl _
    | succ d ih =>
      intro m hm n hn f hf hfm
      obtain ⟨n, rfl⟩ : ∃ n', n = n' + 1 := ⟨n - 1, by omega⟩
      refine ⟨vp_in_nI (by omega) (by decide), br_f ?_ ⟨Lv o + 1, ?_⟩⟩
      · rw [nI_clamp (by omega), b1]
        exact nI_ge (by omega) (by omega)
      · have fin : ∀ t, f ≤ t → t ≤ Lv o → (∀ j, j < Lv o → (U o j < m + 1 ↔ j < t)) → wX_end_83 post (wX_end_29 post (nI k) (nI B) (nI (rq_tk k)) x4 sz hh oo (nI o) (nI w) kn fd n) (nI k) (nI B) (nI (rq_tk k)) x4 (nI f) (nI m) (nI t) sz hh oo (nI o) (nI w) kn fd rc ce kd ar bn ho tB la ro un we lo (rx_fl nu 1296 m gv) ti := by
          intro t h1 h2 h3
          unfold wX_end_83
          rw [rx_1296]
          refine rx_gath (e := e) (tgt := tgt) (H := H) (U := U) (G := fun l q => l ≤ o ∧ q < Lv l) (val := val) hk h17 h1 (by omega) (fun z => ⟨hx4 z, by omega, (h14 z).1, (h14 z).2⟩) (fun l q h => ⟨by omega, by have := (hS l h.1).2; omega, fun c => ?_⟩) (fun j _ hj => ⟨Nat.le_refl o, by omega⟩) (fun z j _ hj => ?_) ⟨vp_in_nI (by omega) (by decide), nm_r (e' := rx_fl nu 1296 (m + 1) gv) ?_ (nm_r (nI_1 m) (ih (m + 1) (by omega) n (by omega) t h2 h3))⟩
          · obtain ⟨x1, x2, x3⟩ := hS2 l (by omega) h.1
            exact ⟨x1, (x3 q h.2).1, by omega, (x3 q h.2).2⟩
          · have := lt1 j (by omega)
            rw [rx_fl_out (by omega)]
            exact hv z j (by omega)
          · rw [nI_clamp (by omega)]
            refine rx_fl_s ?_
            rw [hgv]
            have : (List.range (Lv o)).filter (fun j => decide (U o j = m)) = List.range' f (t - f) := by
              rw [← rx_range f t h1 (Lv o) h2]
              refine List.filter_congr (fun j hj => ?_)
              have hj := List.mem_range.mp hj
              have a1 := hfm j hj
              have a2 := h3 j hj
              by_cases c : U o j = m
              · rw [decide_eq_true c, decide_eq_true (show f ≤ j by omega), decide_eq_true (show j < t by omega)]; rfl
              · rw [decide_eq_false c]
                by_cases c2 : f ≤ j
                · rw [decide_eq_false (show ¬ j < t by omega), Bool.and_false]
                · rw [decide_eq_false c2, Bool.false_and]
            dsimp only
            rw [this]
        have Y : ∀ d2 t, t + d2 = Lv o → f ≤ t → (∀ j, f ≤ j → j < t → U o j = m) → ∀ n2, d2 < n2 → wX_end_44 post (wX_end_29 post (nI k) (nI B) (nI (rq_tk k)) x4 sz hh oo (nI o) (nI w) kn fd n) (nI k) (nI B) (nI (rq_tk k)) x4 (nI f) (nI m) sz hh oo (nI o) (nI w) kn fd rc ce kd ar bn ho tB la ro un we lo (rx_fl nu 1296 m gv) ti n2 (nI t) := by
          intro d2
          induction d2 with
          | zero =>
            intro t h1 h2 h3 n2 hn2
            obtain ⟨n2, rfl⟩ : ∃ n', n2 = n' + 1 := ⟨n2 - 1, by omega⟩
            refine ⟨vp_in_nI (by omega) (by decide), br_t ?_ (fin t h2 (by omega) (fun j hj => ?_))⟩
            · rw [nI_clamp (by omega), l1]
              exact nI_le (by omega) (by omega)
            · have a1 := hfm j hj
              by_cases c : f ≤ j
              · have := h3 j c (by omega); omega
              · omega
          | succ d2 ih2 =>
            intro t h1 h2 h3 n2 hn2
            obtain ⟨n2, rfl⟩ : ∃ n', n2 = n' + 1 := ⟨n2 - 1, by omega⟩
            obtain ⟨y1, y2⟩ := o3 t (by omega)
            refine ⟨vp_in_nI (by omega) (by decide), br_f ?_ (rx_place ⟨vp_in_nI (by omega) (by decide), ?_⟩)⟩
            · rw [nI_clamp (by omega), l1]
              exact nI_ge (by omega) (by omega)
            · rw [nI_clamp (n := 216 * o + t) (by omega), y1]
              by_cases c : U o t = m
              · refine br_t (by rw [c]) (nm_r (nI_1 t) (ih2 (t + 1) (by omega) (by omega) (fun j hj1 hj2 => ?_) n2 (by omega)))
                by_cases cj : j = t
                · rw [cj]; exact c
                · exact h3 j hj1 (by omega)
              · refine br_f (rq_ne c (by omega) (by omega)) (fin t h2 (by omega) (fun j hj => ?_))
                have a1 := hfm j hj
                have a2 := hfm t (by omega)
                by_cases cj : j < t
                · by_cases c2 : f ≤ j
                  · have := h3 j c2 cj; omega
                  · omega
                · have := hso t j (by omega) hj
                  omega
        exact Y (Lv o - f) f (by omega) (Nat.le_refl f) (fun j h1 h2 => absurd h2 (by omega)) (Lv o + 1) (by omega)
  unfold wpX_end
  refine ⟨vp_in_nI (by omega) (by decide), nm_r (e' := nI B) (by rw [nI_clamp (by omega), o1]) (rx_taken h17 (nm_e ⟨Lv B + 1, ?_⟩))⟩
  have := X (nI w - 1) (fun z => by
    have := rq_tk1 k z
    rw [show w = e + 1 by omega]; exact nI_pred e) (Lv B) 0 (by omega) (Lv B + 1) (by omega) 0 (Nat.zero_le _) (fun j _ => ⟨fun z => absurd z (Nat.not_lt_zero _), fun z => absurd z (Nat.not_lt_zero _)⟩)
  rw [rx_fl_0] at this
  exact this
end
end
section
/-! the component's walk: the beginning of a block -/
/-- the argument as a number -/
def rx_an (a : Nat → Int32) (p : Nat) : Nat := (a p).toNatClampNeg
section
variable {sz hh oo lv dp kn fd : Int32} {rc ce kd ar bn ho tB la ro un we lo nu ti : Nat → Int32}
theorem rx_needs {post : Int32 → Prop} {K : Nat → Nat} {s i : Nat} (hs : s ≤ 48) (hk : ∀ q, q < s → kd q = nI (K q)) (hW : rq_WF K ar s) (hi : i < s) (k10 : K i = 10)
    (hp : ∀ b, b ≤ rq_o K i → (b = 0 ∨ ∃ p, i < p ∧ p < s ∧ K p = 1 ∧ (∀ q, i < q → q ≤ p → rq_o K i < rq_o K q) ∧ rx_an ar p / 3 + 1 = b) → (∀ p, i < p → p < s → K p = 1 → (∀ q, i < q → q ≤ p → rq_o K i < rq_o K q) → rx_an ar p / 3 < rq_o K i → rx_an ar p / 3 + 1 ≤ b) → post (nI b)) : wpX_needs post (nI s, hh, oo, lv, dp, kn, fd, rc, ce, kd, ar, bn, ho, tB, la, ro, un, we, lo, nu, ti) (nI i) (nI (rq_o K i)) := by
  have oi := (rq_st (a := ar) i (fun q hq => hW q (by omega))).2.1
  have X : ∀ d p, p + d = s → i < p → (∀ q, i < q → q < p → rq_o K i < rq_o K q) → rq_o K i ≤ rq_o K p → ∀ M, M ≤ rq_o K i → (M = 0 ∨ ∃ p', i < p' ∧ p' < s ∧ K p' = 1 ∧ (∀ q, i < q → q ≤ p' → rq_o K i < rq_o K q) ∧ rx_an ar p' / 3 + 1 = M) → (∀ p', i < p' → p' < p → K p' = 1 → rx_an ar p' / 3 < rq_o K i → rx_an ar p' / 3 + 1 ≤ M) → ∀ n, d < n → wX_needs_10 post (nI (rq_o K i)) (nI s) hh oo lv dp kn fd rc ce kd ar bn ho tB la ro un we lo nu ti n (nI M) (nI (rq_o K p - rq_o K i)) (nI p) := by
    intro d
    induction d with
    | zero =>
      intro p hd hip hq hop M hM h1 h2 n hn
      obtain ⟨n, rfl⟩ : ∃ n', n = n' + 1 := ⟨n - 1, by omega⟩
      exact br_t (nI_le (by omega) (by omega)) (hp M hM h1 (fun p' a1 a2 a3 _ a5 => h2 p' a1 (by omega) a3 a5))
    | succ d ih =>
      intro p hd hip hq hop M hM h1 h2 n hn
      obtain ⟨n, rfl⟩ : ∃ n', n = n' + 1 := ⟨n - 1, by omega⟩
      have op := (rq_st (a := ar) p (fun q hq => hW q (by omega))).2.1
      have hk17 := (hW p (by omega)).1
      refine br_f (nI_ge (by omega) (by omega)) ?_
      by_cases cin : rq_o K p = rq_o K i
      · refine br_t (by rw [cin, Nat.sub_self]; exact Int32.le_refl _) (hp M hM h1 (fun p' a1 a2 a3 a4 a5 => h2 p' a1 (Nat.lt_of_not_le (fun z => ?_)) a3 a5))
        have := a4 p hip z
        omega
      · have hv : vp_in (nI p) 48 := vp_in_nI (by omega) (by decide)
        have hq' : ∀ q, i < q → q < p + 1 → rq_o K i < rq_o K q := fun q q1 q2 => by
          by_cases c : q = p
          · rw [c]; omega
          · exact hq q q1 (by omega)
        have nx := fun h M hM h1 h2 => ih (p + 1) (by omega) (by omega) hq' h M hM h1 h2 n (by omega)
        refine br_f (nI_nle (by omega) (by omega)) ⟨hv, ?_⟩
        rw [nI_clamp (n := p) (by omega), hk p (by omega)]
        by_cases c10 : K p = 10
        · obtain ⟨-, e2, -, -⟩ := rq_s10 c10
          refine br_t (by rw [c10]; rfl) (nm_r (e' := nI (rq_o K (p + 1) - rq_o K i)) ?_ (nm_r (nI_1 p) (nx (by omega) M hM h1 (fun p' a1 a2 a3 a5 => h2 p' a1 ?_ a3 a5))))
          · rw [nI_1]; exact congrArg nI (by omega)
          · refine Nat.lt_of_le_of_ne (by omega) (fun z => ?_)
            rw [z, c10] at a3; exact absurd a3 (by decide)
        · refine br_f (rq_ne (c := 10) c10 (by omega) (by decide)) ⟨hv, rx_ends (by omega) (fun c12 => br_f (by decide) ?_) (fun c12 => br_t rfl ⟨hv, ?_⟩)⟩
          · obtain ⟨-, e2⟩ := rq_sE c12
            refine nm_r (e' := nI (rq_o K (p + 1) - rq_o K i)) ?_ (nm_r (nI_1 p) (nx (by omega) M hM h1 (fun p' a1 a2 a3 a5 => h2 p' a1 ?_ a3 a5)))
            · rw [show rq_o K p - rq_o K i = (rq_o K (p + 1) - rq_o K i) + 1 by omega]; exact pk_m1 _
            · refine Nat.lt_of_le_of_ne (by omega) (fun z => ?_)
              rw [z] at a3; omega
          · have e2 : rq_o K (p + 1) = rq_o K p := by
              by_cases c11 : K p = 11
              · exact (rq_s11 c11).2
              · exact (rq_sS (by omega)).2
            rw [e2] at nx
            by_cases c1 : K p = 1
            · obtain ⟨j, hj, ej, hjo⟩ := (hW p (by omega)).2.1 c1
              have ean : rx_an ar p = j := by unfold rx_an; rw [ej]; exact nI_clamp (by omega)
              have e3 : nI j / 3 = nI (j / 3) := pk_div (d := 3) (by omega) (by decide) (by decide)
              refine br_t (by rw [c1]; rfl) ⟨hv, by decide, ?_⟩
              rw [ej, e3]
              by_cases cb : j / 3 < rq_o K i
              · refine br_f (nI_ge cb (by omega)) ⟨hv, by decide, nm_r (nI_1 (j / 3)) ?_⟩
                have h1' : j / 3 + 1 = 0 ∨ ∃ p', i < p' ∧ p' < s ∧ K p' = 1 ∧ (∀ q, i < q → q ≤ p' → rq_o K i < rq_o K q) ∧ rx_an ar p' / 3 + 1 = j / 3 + 1 := Or.inr ⟨p, hip, by omega, c1, fun q q1 q2 => hq' q q1 (by omega), by rw [ean]⟩
                by_cases cm : j / 3 + 1 ≤ M
                · refine br_t (nI_le cm (by omega)) (nm_r (nI_1 p) (nx (by omega) M hM h1 (fun p' a1 a2 a3 a5 => ?_)))
                  by_cases cp : p' = p
                  · rw [cp, ean]; exact cm
                  · exact h2 p' a1 (by omega) a3 a5
                · refine br_f (nI_ge (by omega) (by omega)) (nm_r (nI_1 p) (nx (by omega) (j / 3 + 1) (by omega) h1' (fun p' a1 a2 a3 a5 => ?_)))
                  by_cases cp : p' = p
                  · rw [cp, ean]; exact Nat.le_refl _
                  · have := h2 p' a1 (by omega) a3 a5; omega
              · refine br_t (nI_le (by omega) (by omega)) (nm_r (nI_1 p) (nx (by omega) M hM h1 (fun p' a1 a2 a3 a5 => ?_)))
                by_cases cp : p' = p
                · rw [cp, ean] at a5; exact absurd a5 cb
                · exact h2 p' a1 (by omega) a3 a5
            · refine br_f (rq_ne (c := 1) c1 (by omega) (by decide)) (nm_r (nI_1 p) (nx (by omega) M hM h1 (fun p' a1 a2 a3 a5 => h2 p' a1 ?_ a3 a5)))
              refine Nat.lt_of_le_of_ne (by omega) (fun z => ?_)
              rw [z] at a3; exact c1 a3
  unfold wpX_needs
  refine nm_r (nI_1 i) ⟨s + 1, ?_⟩
  obtain ⟨-, e2, -, -⟩ := rq_s10 k10
  have := X (s - (i + 1)) (i + 1) (by omega) (by omega) (fun q q1 q2 => absurd q2 (by omega)) (by omega) 0 (Nat.zero_le _) (Or.inl rfl) (fun p' a1 a2 => absurd a2 (by omega)) (s + 1) (by omega)
  rw [e2, Nat.add_sub_cancel_left] at this
  exact this
theorem rx_layRows {post : Int32 → SX → Prop} {l m f t n : Nat} (hl : l < 4) (ht : tB l = nI t) (ht3 : t < 3) (hn : rc t = nI n) (hn6 : n ≤ 6) (hf : f + n ≤ 216) (hm : m < 216) (hp : post (nI (f + n)) (sz, hh, oo, lv, dp, kn, fd, rc, ce, kd, ar, bn, ho, tB, la, rx_fl ro (216 * l + f) n (fun r => nI r), rx_fl un (216 * l + f) n (fun _ => nI m), rx_fl we (216 * l + f) n (fun _ => nu (1296 + m)), lo, nu, ti)) : wpX_layRows post (sz, hh, oo, lv, dp, kn, fd, rc, ce, kd, ar, bn, ho, tB, la, ro, un, we, lo, nu, ti) (nI l) (nI m) (nI f) := by
  have X : ∀ d r, r + d = n → ∀ g, d < g → wX_layRows_6 post (nI l) (nI m) sz hh oo lv dp kn fd g (nI (f + r)) (nI r) rc ce kd ar bn ho tB la (rx_fl ro (216 * l + f) r (fun r => nI r)) (rx_fl un (216 * l + f) r (fun _ => nI m)) (rx_fl we (216 * l + f) r (fun _ => nu (1296 + m))) lo nu ti := by
    intro d
    induction d with
    | zero =>
      intro r hr g hg
      obtain ⟨g, rfl⟩ : ∃ n', g = n' + 1 := ⟨g - 1, by omega⟩
      have er : r = n := by omega
      subst er
      refine ⟨vp_in_nI hl (by decide), ?_⟩
      rw [nI_clamp (n := l) (by omega), ht, nI_clamp (n := t) (by omega), hn]
      exact ⟨vp_in_nI ht3 (by decide), br_t (Int32.le_refl _) hp⟩
    | succ d ih =>
      intro r hr g hg
      obtain ⟨g, rfl⟩ : ∃ n', g = n' + 1 := ⟨g - 1, by omega⟩
      refine ⟨vp_in_nI hl (by decide), ?_⟩
      rw [nI_clamp (n := l) (by omega), ht, nI_clamp (n := t) (by omega), hn]
      refine ⟨vp_in_nI ht3 (by decide), br_f (nI_ge (by omega) (by omega)) (rx_place ?_)⟩
      have v : vp_in (nI (216 * l + (f + r))) 864 := vp_in_nI (by omega) (by decide)
      rw [nI_clamp (n := 216 * l + (f + r)) (by omega), rx_1296, nI_clamp (n := 1296 + m) (by omega)]
      rw [show 216 * l + (f + r) = 216 * l + f + r by omega] at v ⊢
      exact ⟨v, nm_r (e' := rx_fl ro (216 * l + f) (r + 1) (fun r => nI r)) (rx_fl_s rfl) ⟨v, nm_r (e' := rx_fl un (216 * l + f) (r + 1) (fun _ => nI m)) (rx_fl_s rfl) ⟨vp_in_nI (by omega) (by decide), v, nm_r (e' := rx_fl we (216 * l + f) (r + 1) (fun _ => nu (1296 + m))) (rx_fl_s rfl) (nm_r (nI_1 (f + r)) (nm_r (nI_1 r) (ih (r + 1) (by omega) g (by omega))))⟩⟩⟩
  unfold wpX_layRows
  have := X n 0 (by omega) (n + 1) (by omega)
  rw [rx_fl_0, rx_fl_0, rx_fl_0] at this
  exact ⟨n + 1, this⟩
theorem rx_b138 {post : SX → Prop} {l B Lb t n : Nat} (hl : l < 4) (hB : B < 4) (hL : la B = nI Lb) (ht : tB l = nI t) (ht3 : t < 3) (hn : rc t = nI n) (hn6 : n ≤ 6) (hLb : Lb * n ≤ 216) (hLb2 : Lb ≤ 216) (hp : post (sz, hh, oo, nI l, dp, kn, fd, rc, ce, kd, ar, bn, ho, tB, upd la l (nI (Lb * n)), rx_fl ro (216 * l) (Lb * n) (fun x => nI (x % n)), rx_fl un (216 * l) (Lb * n) (fun x => nI (x / n)), rx_fl we (216 * l) (Lb * n) (fun x => nu (1296 + x / n)), lo, nu, ti)) : ∀ d m, m + d = Lb → ∀ g, d < g → wX_begin_138 post (nI B) (nI l) g (nI (m * n)) (nI m) sz hh oo lv dp kn fd rc ce kd ar bn ho tB la (rx_fl ro (216 * l) (m * n) (fun x => nI (x % n))) (rx_fl un (216 * l) (m * n) (fun x => nI (x / n))) (rx_fl we (216 * l) (m * n) (fun x => nu (1296 + x / n))) lo nu ti := by
  intro d
  induction d with
  | zero =>
    intro m hm g hg
    obtain ⟨g, rfl⟩ : ∃ n', g = n' + 1 := ⟨g - 1, by omega⟩
    have em : m = Lb := by omega
    subst em
    refine ⟨vp_in_nI hB (by decide), br_t ?_ ⟨vp_in_nI hl (by decide), nm_r (e' := upd la l (nI (m * n))) (by rw [nI_clamp (by omega)]) hp⟩⟩
    rw [nI_clamp (by omega), hL]
    exact Int32.le_refl _
  | succ d ih =>
    intro m hm g hg
    obtain ⟨g, rfl⟩ : ∃ n', g = n' + 1 := ⟨g - 1, by omega⟩
    have nx := ih (m + 1) (by omega) g (by omega)
    have e1 : (m + 1) * n = m * n + n := by rw [Nat.add_mul, Nat.one_mul]
    have e2 : (m + 1) * n ≤ Lb * n := Nat.mul_le_mul_right n (by omega)
    refine ⟨vp_in_nI hB (by decide), br_f ?_ ?_⟩
    · rw [nI_clamp (by omega), hL]
      exact nI_ge (by omega) (by omega)
    · refine rx_layRows hl ht ht3 hn hn6 (by omega) (by omega) (nm_r (nI_1 m) ?_)
      rw [e1] at nx
      have d1 : ∀ r, r < n → (m * n + r) % n = r := fun r hr => by rw [Nat.mul_comm, Nat.mul_add_mod]; exact Nat.mod_eq_of_lt hr
      have d2 : ∀ r, r < n → (m * n + r) / n = m := fun r hr => by rw [Nat.mul_comm, Nat.mul_add_div (by omega), Nat.div_eq_of_lt hr]; rfl
      rw [rx_fl_app (fun r hr => by rw [d1 r hr]), rx_fl_app (fun r hr => by rw [d2 r hr]), rx_fl_app (fun r hr => by rw [d2 r hr])]
      exact nx
theorem rx_fl_add {a : Nat → Int32} {b n k j : Nat} {f : Nat → Nat → Nat} {w : Nat} (hk : k < n) (h : ∀ m, f (j + 1) m = f j m + (if k = m then w else 0)) : upd (rx_fl a b n (fun m => nI (f j m))) (b + k) (rx_fl a b n (fun m => nI (f j m)) (b + k) + nI w) = rx_fl a b n (fun m => nI (f (j + 1) m)) := by
  funext x
  by_cases c : x = b + k
  · rw [c, pk_us, rx_fl_in hk, rx_fl_in hk, nI_add, h k, if_pos rfl]
  · rw [pk_un c]
    unfold rx_fl
    by_cases c2 : b ≤ x ∧ x < b + n
    · rw [if_pos c2, if_pos c2]
      show nI (f j (x - b)) = nI (f (j + 1) (x - b))
      rw [h, if_neg (by omega), Nat.add_zero]
    · rw [if_neg c2, if_neg c2]
theorem rx_begin {post : SX → Prop} {K : Nat → Nat} {s i n t : Nat} {Lv H : Nat → Nat} {U : Nat → Nat → Nat} {Wt : Nat → Nat} (hs : s ≤ 48) (hk : ∀ q, q < s → kd q = nI (K q)) (hW : rq_WF K ar s) (hi : i < s) (k10 : K i = 10) (ho3 : rq_o K i < 3) (et : ar i = nI t) (ht3 : t < 3) (hn : rc t = nI n) (hn6 : n ≤ 6)
    (hS : ∀ l, l ≤ rq_o K i → la l = nI (Lv l) ∧ Lv l ≤ 216 ∧ Lv l * n ≤ 216) (hS2 : ∀ l, 0 < l → l ≤ rq_o K i → ho l = nI (H l) ∧ H l < l ∧ ∀ j, j < Lv l → un (216 * l + j) = nI (U l j) ∧ U l j < Lv (H l)) (hwt : ∀ j, j < Lv (rq_o K i) → we (216 * rq_o K i + j) = nI (Wt j))
    (hlt : ∀ b, b ≤ rq_o K i → (∀ m, b < m → m ≤ rq_o K i → b ≤ H m) → ∀ j, j < Lv (rq_o K i) → rx_la H U b 3 (rq_o K i) j < Lv b)
    (hch : ∀ b, b ≤ rq_o K i → (b = 0 ∨ ∃ p, i < p ∧ p < s ∧ K p = 1 ∧ (∀ q, i < q → q ≤ p → rq_o K i < rq_o K q) ∧ rx_an ar p / 3 + 1 = b) → ∀ m, b < m → m ≤ rq_o K i → b ≤ H m)
    (hp : ∀ b, b ≤ rq_o K i → (∀ m, b < m → m ≤ rq_o K i → b ≤ H m) → (∀ p, i < p → p < s → K p = 1 → (∀ q, i < q → q ≤ p → rq_o K i < rq_o K q) → rx_an ar p / 3 < rq_o K i → rx_an ar p / 3 + 1 ≤ b) →
      post (nI s, hh, oo, nI (rq_o K i + 1), dp, kn, fd, rc, ce, kd, ar, bn, upd ho (rq_o K i + 1) (nI b), upd tB (rq_o K i + 1) (nI t), upd la (rq_o K i + 1) (nI (Lv b * n)), rx_fl ro (216 * (rq_o K i + 1)) (Lv b * n) (fun x => nI (x % n)), rx_fl un (216 * (rq_o K i + 1)) (Lv b * n) (fun x => nI (x / n)), rx_fl we (216 * (rq_o K i + 1)) (Lv b * n) (fun x => rx_fl nu 1296 (Lv b) (fun m => nI (rq_sum (Lv (rq_o K i)) (fun j => if rx_la H U b 3 (rq_o K i) j = m then Wt j else 0))) (1296 + x / n)), lo, rx_fl nu 1296 (Lv b) (fun m => nI (rq_sum (Lv (rq_o K i)) (fun j => if rx_la H U b 3 (rq_o K i) j = m then Wt j else 0))), ti)) : wpX_begin post (nI s, hh, oo, nI (rq_o K i), dp, kn, fd, rc, ce, kd, ar, bn, ho, tB, la, ro, un, we, lo, nu, ti) (nI i) := by
  unfold wpX_begin
  refine rx_needs hs hk hW hi k10 (fun b hb hb1 hb2 => nm_r (nI_1 _) ⟨vp_in_nI (by omega) (by decide), nm_r (e' := upd ho (rq_o K i + 1) (nI b)) (by rw [nI_clamp (by omega)]) ⟨vp_in_nI (by omega) (by decide), vp_in_nI (by omega) (by decide), nm_r (e' := upd tB (rq_o K i + 1) (nI t)) (by rw [nI_clamp (by omega), nI_clamp (by omega), et]) ⟨Lv b + 1, ?_⟩⟩⟩)
  have chain := hch b hb hb1
  have P := hp b hb chain hb2
  obtain ⟨b1, b2, b3⟩ := hS b hb
  obtain ⟨o1, o2, o3⟩ := hS (rq_o K i) (Nat.le_refl _)
  generalize hov : rq_o K i = ov at *
  -- the weights go to the lanes of the level that the block hangs on
  have Y : ∀ d j, j + d = Lv ov → ∀ g, d < g → wX_begin_71 post (nI b) (nI (ov + 1)) (nI s) hh oo (nI ov) dp kn fd g (nI j) rc ce kd ar bn (upd ho (ov + 1) (nI b)) (upd tB (ov + 1) (nI t)) la ro un we lo (rx_fl nu 1296 (Lv b) (fun m => nI (rq_sum j (fun j => if rx_la H U b 3 ov j = m then Wt j else 0)))) ti := by
    intro d
    induction d with
    | zero =>
      intro j hj g hg
      obtain ⟨g, rfl⟩ : ∃ n', g = n' + 1 := ⟨g - 1, by omega⟩
      have ej : j = Lv ov := by omega
      subst ej
      refine ⟨vp_in_nI (by omega) (by decide), br_t ?_ ⟨Lv b + 1, ?_⟩⟩
      · rw [nI_clamp (by omega), o1]
        exact Int32.le_refl _
      · have Z := rx_b138 (sz := nI s) (hh := hh) (oo := oo) (lv := nI ov) (dp := dp) (kn := kn) (fd := fd) (rc := rc) (ce := ce) (kd := kd) (ar := ar) (bn := bn) (ho := upd ho (ov + 1) (nI b)) (tB := upd tB (ov + 1) (nI t)) (la := la) (ro := ro) (un := un) (we := we) (lo := lo) (nu := rx_fl nu 1296 (Lv b) (fun m => nI (rq_sum (Lv ov) (fun j => if rx_la H U b 3 ov j = m then Wt j else 0)))) (ti := ti) (l := ov + 1) (B := b) (Lb := Lv b) (t := t) (n := n) (post := post) (by omega) (by omega) b1 pk_us ht3 hn hn6 b3 b2 P (Lv b) 0 (by omega) (Lv b + 1) (by omega)
        rw [Nat.zero_mul, rx_fl_0, rx_fl_0, rx_fl_0] at Z
        exact Z
    | succ d ih =>
      intro j hj g hg
      obtain ⟨g, rfl⟩ : ∃ n', g = n' + 1 := ⟨g - 1, by omega⟩
      have nx := ih (j + 1) (by omega) g (by omega)
      have lt := hlt b hb chain j (by omega)
      refine ⟨vp_in_nI (by omega) (by decide), br_f ?_ ?_⟩
      · rw [nI_clamp (by omega), o1]
        exact nI_ge (by omega) (by omega)
      · refine rx_laneAt (H := H) (U := U) (G := fun l q => l ≤ ov ∧ q < Lv l) (fun l q h => ⟨by omega, by have := (hS l h.1).2.1; omega, fun c => ?_⟩) ⟨Nat.le_refl ov, by omega⟩ (by omega) ?_
        · obtain ⟨x1, x2, x3⟩ := hS2 l (by omega) h.1
          exact ⟨by rw [pk_un (by omega)]; exact x1, (x3 q h.2).1, by omega, (x3 q h.2).2⟩
        · rw [rx_1296, nI_clamp (n := 1296 + rx_la H U b 3 ov j) (by omega)]
          refine ⟨vp_in_nI (by omega) (by decide), rx_place ⟨vp_in_nI (by omega) (by decide), vp_in_nI (by omega) (by decide), nm_r (e' := rx_fl nu 1296 (Lv b) (fun m => nI (rq_sum (j + 1) (fun j => if rx_la H U b 3 ov j = m then Wt j else 0)))) ?_ (nm_r (nI_1 j) nx)⟩⟩
          rw [nI_clamp (n := 216 * ov + j) (by omega), hwt j (by omega)]
          exact rx_fl_add (f := fun j m => rq_sum j (fun j => if rx_la H U b 3 ov j = m then Wt j else 0)) lt (fun m => rfl)
  have Y0 := Y (Lv ov) 0 (by omega) (Lv ov + 1) (by omega)
  have X : ∀ d j, j + d = Lv b → ∀ g, d < g → wX_begin_39 post (nI b) (nI (ov + 1)) (nI s) hh oo (nI ov) dp kn fd g (nI j) rc ce kd ar bn (upd ho (ov + 1) (nI b)) (upd tB (ov + 1) (nI t)) la ro un we lo (rx_fl nu 1296 j (fun m => nI 0)) ti := by
    intro d
    induction d with
    | zero =>
      intro j hj g hg
      obtain ⟨g, rfl⟩ : ∃ n', g = n' + 1 := ⟨g - 1, by omega⟩
      have ej : j = Lv b := by omega
      subst ej
      refine ⟨vp_in_nI (by omega) (by decide), br_t ?_ ⟨Lv ov + 1, Y0⟩⟩
      rw [nI_clamp (by omega), b1]
      exact Int32.le_refl _
    | succ d ih =>
      intro j hj g hg
      obtain ⟨g, rfl⟩ : ∃ n', g = n' + 1 := ⟨g - 1, by omega⟩
      refine ⟨vp_in_nI (by omega) (by decide), br_f ?_ ?_⟩
      · rw [nI_clamp (by omega), b1]
        exact nI_ge (by omega) (by omega)
      · rw [rx_1296, nI_clamp (n := 1296 + j) (by omega)]
        exact ⟨vp_in_nI (by omega) (by decide), nm_r (e' := rx_fl nu 1296 (j + 1) (fun m => nI 0)) (rx_fl_s rfl) (nm_r (nI_1 j) (ih (j + 1) (by omega) g (by omega)))⟩
  have := X (Lv b) 0 (by omega) (Lv b + 1) (by omega)
  rw [rx_fl_0] at this
  exact this
end
end
section
/-! lanes: what the component keeps, against all choices of rows -/
def rx_up {α : Type} (f : Nat → α) (k : Nat) (x : α) : Nat → α := fun l => if l = k then x else f l
theorem rx_up_s {α : Type} {f : Nat → α} {k : Nat} {x : α} : rx_up f k x k = x := if_pos rfl
theorem rx_up_n {α : Type} {f : Nat → α} {k l : Nat} {x : α} (h : l ≠ k) : rx_up f k x l = f l := if_neg h
theorem rq_Al_mono {N T : Nat → Nat} {A : Nat → (Nat → Nat) → Bool} {l m : Nat} {ρ : Nat → Nat} (h : rq_Al N T A l ρ) (hm : m ≤ l) : rq_Al N T A m ρ := fun b hb => h b (by omega)
theorem rq_Al_c {N T T' : Nat → Nat} {A A' : Nat → (Nat → Nat) → Bool} {l : Nat} {ρ : Nat → Nat} (h : rq_Al N T A l ρ) (hT : ∀ b, b < l → T' b = T b) (hA : ∀ b, b < l → A' b = A b) : rq_Al N T' A' l ρ := fun b hb => by
  rw [hT b hb, hA b hb]; exact h b hb
/-- ghosts: L lanes of a level, H the level it hangs on, U and R lane and row of a lane, Wt its weight, lm the lane of a choice of rows -/
def rx_XG (o : Nat) (N T : Nat → Nat) (A : Nat → (Nat → Nat) → Bool) (L H : Nat → Nat) (U R Wt : Nat → Nat → Nat) (lm : Nat → (Nat → Nat) → Nat) : Prop :=
  (L 0 = 1 ∧ ∀ ρ, lm 0 ρ = 0) ∧ (∀ l, l ≤ o → rq_loc l (lm l)) ∧
  (∀ l, l < o → H (l + 1) ≤ l ∧ (∀ j, j < L (l + 1) → U (l + 1) j < L (H (l + 1)) ∧ R (l + 1) j < N (T l)) ∧ (∀ m, H (l + 1) < m → m ≤ l → H (l + 1) ≤ H m) ∧ (∀ i j, i ≤ j → j < L (l + 1) → U (l + 1) i ≤ U (l + 1) j)) ∧
  (∀ l, l < o → ∀ ρ, rq_Al N T A (l + 1) ρ → lm (l + 1) ρ < L (l + 1) ∧ R (l + 1) (lm (l + 1) ρ) = ρ l ∧ U (l + 1) (lm (l + 1) ρ) = lm (H (l + 1)) ρ) ∧
  (∀ l, l < o → ∀ ρ, rq_Al N T A l ρ → (List.range (L (l + 1))).filter (fun j => decide (U (l + 1) j = lm (H (l + 1)) ρ)) = (rq_rows (N (T l)) (fun r => A l (rq_set ρ l r))).map (fun r => lm (l + 1) (rq_set ρ l r))) ∧
  (∀ l, l ≤ o → ∀ j, j < L l → Wt l j = rq_SM N T A l 0 (fun _ => 0) (fun ρ => if lm l ρ = j then 1 else 0))
section
variable {o : Nat} {N T : Nat → Nat} {A : Nat → (Nat → Nat) → Bool} {L H : Nat → Nat} {U R Wt : Nat → Nat → Nat} {lm : Nat → (Nat → Nat) → Nat}
theorem rx_XG_dn {o' : Nat} (h : rx_XG o N T A L H U R Wt lm) (ho : o' ≤ o) : rx_XG o' N T A L H U R Wt lm := by
  obtain ⟨a, b, c, d, e, f⟩ := h
  exact ⟨a, fun l hl => b l (by omega), fun l hl => c l (by omega), fun l hl => d l (by omega), fun l hl => e l (by omega), fun l hl => f l (by omega)⟩
theorem rx_XG_lt (h : rx_XG o N T A L H U R Wt lm) {l : Nat} (hl : l ≤ o) {ρ : Nat → Nat} (hA : rq_Al N T A l ρ) : lm l ρ < L l := by
  obtain ⟨a, b, c, d, e, f⟩ := h
  cases l with
  | zero => rw [a.1, a.2]; decide
  | succ l => exact (d l (by omega) ρ hA).1
theorem rx_la_lt (hS : ∀ l, 0 < l → l ≤ o → H l < l ∧ ∀ j, j < L l → U l j < L (H l)) {tgt : Nat} : ∀ f l j, l ≤ f → l ≤ o → tgt ≤ l → (∀ m, tgt < m → m ≤ l → tgt ≤ H m) → j < L l → rx_la H U tgt f l j < L tgt := by
  intro f
  induction f with
  | zero =>
    intro l j hl ho ht hc hj
    have e1 : l = tgt := by omega
    rw [← e1]; exact hj
  | succ f ih =>
    intro l j hl ho ht hc hj
    unfold rx_la
    by_cases c : l ≤ tgt
    · rw [if_pos c]
      have e1 : l = tgt := by omega
      rw [← e1]; exact hj
    · rw [if_neg c]
      obtain ⟨s1, s2⟩ := hS l (by omega) ho
      exact ih (H l) (U l j) (by omega) (by omega) (hc l (by omega) (Nat.le_refl l)) (fun m h1 h2 => hc m h1 (by omega)) (s2 j hj)
theorem rx_la_lm (h : rx_XG o N T A L H U R Wt lm) {tgt : Nat} : ∀ f l (ρ : Nat → Nat), l ≤ f → l ≤ o → tgt ≤ l → (∀ m, tgt < m → m ≤ l → tgt ≤ H m) → rq_Al N T A l ρ → rx_la H U tgt f l (lm l ρ) = lm tgt ρ := by
  intro f
  induction f with
  | zero =>
    intro l ρ hl ho ht hc hA
    have e1 : l = tgt := by omega
    rw [← e1]; rfl
  | succ f ih =>
    intro l ρ hl ho ht hc hA
    unfold rx_la
    by_cases c : l ≤ tgt
    · rw [if_pos c]
      have e1 : l = tgt := by omega
      rw [← e1]
    · rw [if_neg c]
      obtain ⟨l', rfl⟩ : ∃ l', l = l' + 1 := ⟨l - 1, by omega⟩
      rw [(h.2.2.2.1 l' (by omega) ρ hA).2.2]
      have hH := (h.2.2.1 l' (by omega)).1
      exact ih (H (l' + 1)) ρ (by omega) (by omega) (hc _ (by omega) (Nat.le_refl _)) (fun m h1 h2 => hc m h1 (by omega)) (rq_Al_mono hA (by omega))
theorem rx_XG_S (h : rx_XG o N T A L H U R Wt lm) : ∀ l, 0 < l → l ≤ o → H l < l ∧ ∀ j, j < L l → U l j < L (H l) := fun l h0 hl => by
  obtain ⟨l', rfl⟩ : ∃ l', l = l' + 1 := ⟨l - 1, by omega⟩
  have c := h.2.2.1 l' (by omega)
  exact ⟨by omega, fun j hj => (c.2.1 j hj).1⟩
/-- all weights of a level together -/
theorem rx_load_SM (h : rx_XG o N T A L H U R Wt lm) (hA : ∀ b, b < o → rq_loc (b + 1) (A b)) {l : Nat} (hl : l ≤ o) : rq_sum (L l) (Wt l) = rq_SM N T A l 0 (fun _ => 0) (fun _ => 1) := by
  have hlt := fun ρ hA => rx_XG_lt (ρ := ρ) h hl hA
  obtain ⟨a, b, c, d, e, f⟩ := h
  rw [rq_sum_c (L l) (fun j hj => f l hl j hj), rq_SM_sum]
  refine rq_SM_c l 0 _ _ _ (fun b hb => hA b (by omega)) (fun σ _ h2 => ?_)
  have hs : lm l σ < L l := hlt σ (fun b hb => h2 b (Nat.zero_le b) (by omega))
  have e1 : rq_sum (L l) (fun j => if lm l σ = j then 1 else 0) = rq_sum (L l) (fun j => if j = lm l σ then 1 else 0) := rq_sum_c _ (fun j _ => by
    by_cases c : lm l σ = j
    · rw [if_pos c, if_pos c.symm]
    · rw [if_neg c, if_neg (fun z => c z.symm)])
  rw [e1, rq_sum_1, if_pos hs]
theorem rx_XG_begin {T' : Nat → Nat} {A' : Nat → (Nat → Nat) → Bool} {n B : Nat} (h : rx_XG o N T A L H U R Wt lm) (ho3 : o ≤ 3) (hA : ∀ b, b < o → rq_loc (b + 1) (A b)) (hT' : ∀ b, b < o → T' b = T b) (hA' : ∀ b, b < o → A' b = A b) (hA'o : ∀ ρ, A' o ρ = true) (hn : N (T' o) = n) (hB : B ≤ o) (hch : ∀ m, B < m → m ≤ o → B ≤ H m) :
    rx_XG (o + 1) N T' A' (rx_up L (o + 1) (L B * n)) (rx_up H (o + 1) B) (rx_up U (o + 1) (fun j => j / n)) (rx_up R (o + 1) (fun j => j % n)) (rx_up Wt (o + 1) (fun j => rq_sum (L o) (fun q => if rx_la H U B 3 o q = j / n then Wt o q else 0))) (rx_up lm (o + 1) (fun ρ => lm B ρ * n + ρ o)) := by
  have hlt := fun l hl ρ hA => rx_XG_lt (l := l) (ρ := ρ) h hl hA
  have hlm := fun ρ hA => rx_la_lm h (tgt := B) 3 o ρ ho3 (Nat.le_refl o) hB hch hA
  obtain ⟨a, b, c, d, e, f⟩ := h
  have al : ∀ l ρ, l ≤ o → rq_Al N T' A' l ρ → rq_Al N T A l ρ := fun l ρ hl hx => rq_Al_c hx (fun b hb => (hT' b (by omega)).symm) (fun b hb => (hA' b (by omega)).symm)
  have q1 : ∀ m r, r < n → (m * n + r) % n = r := fun m r hr => by rw [Nat.mul_comm, Nat.mul_add_mod]; exact Nat.mod_eq_of_lt hr
  have q2 : ∀ m r, r < n → (m * n + r) / n = m := fun m r hr => by rw [Nat.mul_comm, Nat.mul_add_div (by omega), Nat.div_eq_of_lt hr]; rfl
  refine ⟨⟨by rw [rx_up_n (by omega)]; exact a.1, fun ρ => by rw [rx_up_n (by omega)]; exact a.2 ρ⟩, fun l hl => ?_, fun l hl => ?_, fun l hl ρ hAl => ?_, fun l hl ρ hAl => ?_, fun l hl j hj => ?_⟩
  · by_cases cl : l = o + 1
    · rw [cl, rx_up_s]
      intro ρ σ hx
      dsimp only
      rw [b B hB ρ σ (fun c hc => hx c (by omega)), hx o (by omega)]
    · rw [rx_up_n cl]; exact b l (by omega)
  · by_cases cl : l = o
    · rw [cl]
      simp only [rx_up_s]
      refine ⟨hB, fun j hj => ?_, fun m h1 h2 => ?_, fun i j hij _ => Nat.div_le_div_right hij⟩
      · have n0 : 0 < n := Nat.pos_of_ne_zero (fun z => by rw [z] at hj; omega)
        rw [rx_up_n (by omega), hn]
        exact ⟨(Nat.div_lt_iff_lt_mul n0).mpr hj, Nat.mod_lt _ n0⟩
      · rw [rx_up_n (by omega)]; exact hch m h1 h2
    · obtain ⟨c1, c2, c3, c4⟩ := c l (by omega)
      rw [rx_up_n (l := l + 1) (by omega), rx_up_n (l := l + 1) (by omega), rx_up_n (l := l + 1) (by omega), rx_up_n (l := l + 1) (by omega)]
      refine ⟨c1, fun j hj => ?_, fun m h1 h2 => ?_, c4⟩
      · rw [rx_up_n (by omega), hT' l (by omega)]; exact c2 j hj
      · rw [rx_up_n (by omega)]; exact c3 m h1 h2
  · by_cases cl : l = o
    · subst cl
      simp only [rx_up_s]
      have a1 := al l ρ (Nat.le_refl l) (rq_Al_mono hAl (by omega))
      have a2 := (hAl l (by omega)).1
      rw [hn] at a2
      have a3 := hlt B hB ρ (rq_Al_mono a1 hB)
      refine ⟨?_, q1 _ _ a2, ?_⟩
      · have : (lm B ρ + 1) * n ≤ L B * n := Nat.mul_le_mul_right n a3
        rw [Nat.add_mul, Nat.one_mul] at this
        omega
      · rw [q2 _ _ a2, rx_up_n (by omega)]
    · obtain ⟨c1, -⟩ := c l (by omega)
      rw [rx_up_n (l := l + 1) (by omega), rx_up_n (l := l + 1) (by omega), rx_up_n (l := l + 1) (by omega), rx_up_n (l := l + 1) (by omega), rx_up_n (l := l + 1) (by omega), rx_up_n (l := H (l + 1)) (by omega)]
      exact d l (by omega) ρ (al (l + 1) ρ (by omega) hAl)
  · by_cases cl : l = o
    · subst cl
      simp only [rx_up_s]
      have a1 := al l ρ (Nat.le_refl l) hAl
      have a3 := hlt B hB ρ (rq_Al_mono a1 hB)
      rw [hn, rx_up_n (l := B) (by omega)]
      have e1 : (rq_rows n (fun r => A' l (rq_set ρ l r))).map (fun r => lm B (rq_set ρ l r) * n + rq_set ρ l r l) = (List.range n).map (fun r => lm B ρ * n + r) := by
        unfold rq_rows
        rw [List.filter_eq_self.mpr (fun r _ => hA'o _)]
        refine List.map_congr_left (fun r _ => ?_)
        rw [rq_set_s, rq_loc_set (b B hB) hB ρ]
      rw [e1]
      have : (lm B ρ + 1) * n ≤ L B * n := Nat.mul_le_mul_right n a3
      rw [Nat.add_mul, Nat.one_mul] at this
      have e2 := rx_range (lm B ρ * n) (lm B ρ * n + n) (by omega) (L B * n) this
      rw [Nat.add_sub_cancel_left, List.range'_eq_map_range] at e2
      rw [← e2]
      refine List.filter_congr (fun j hj => ?_)
      have hj := List.mem_range.mp hj
      have n0 : 0 < n := Nat.pos_of_ne_zero (fun z => by rw [z] at hj; omega)
      have dm := Nat.div_add_mod j n
      have ml := Nat.mod_lt j n0
      rw [← Bool.decide_and]
      refine decide_eq_decide.mpr ⟨fun z => ?_, fun z => ?_⟩
      · rw [← z, Nat.mul_comm]; omega
      · rw [Nat.div_eq_iff n0, Nat.mul_comm] 
        rw [Nat.mul_comm] at z
        omega
    · obtain ⟨c1, -⟩ := c l (by omega)
      rw [rx_up_n (l := l + 1) (by omega), rx_up_n (l := l + 1) (by omega), rx_up_n (l := l + 1) (by omega), rx_up_n (l := l + 1) (by omega), rx_up_n (l := H (l + 1)) (by omega), hT' l (by omega), hA' l (by omega)]
      exact e l (by omega) ρ (al l ρ (by omega) hAl)
  · by_cases cl : l = o + 1
    · subst cl
      simp only [rx_up_s] at hj ⊢
      have n0 : 0 < n := Nat.pos_of_ne_zero (fun z => by rw [z] at hj; omega)
      have dm := Nat.div_add_mod j n
      have ml := Nat.mod_lt j n0
      rw [rq_SM_s, Nat.zero_add, hn]
      rw [rq_sum_c (L o) (g := fun q => rq_SM N T A o 0 (fun _ => 0) (fun ρ => if rx_la H U B 3 o q = j / n then (if lm o ρ = q then 1 else 0) else 0)) (fun q hq => by rw [f o (Nat.le_refl o) q hq, rq_SM_if]), rq_SM_sum]
      rw [rq_SM_a (T' := T) (A' := A) o 0 _ _ (fun b _ hb => ⟨hT' b (by omega), hA' b (by omega)⟩)]
      refine rq_SM_c o 0 _ _ _ (fun b hb => hA b (by omega)) (fun σ _ h2 => ?_)
      have hal : rq_Al N T A o σ := fun b hb => h2 b (Nat.zero_le b) (by omega)
      have hs := hlt o (Nat.le_refl o) σ hal
      have e1 : rq_sum (L o) (fun q => if rx_la H U B 3 o q = j / n then (if lm o σ = q then 1 else 0) else 0) = rq_sum (L o) (fun q => if q = lm o σ then (if lm B σ = j / n then 1 else 0) else 0) := rq_sum_c _ (fun q _ => by
        by_cases cq : q = lm o σ
        · rw [if_pos cq, cq, hlm σ hal, if_pos rfl]
        · rw [if_neg cq, if_neg (show ¬ lm o σ = q from fun z => cq z.symm)]; split <;> rfl)
      rw [e1, rq_sum_1, if_pos hs]
      have e2 : rq_sum n (fun r => if A' o (rq_set σ o r) = true then (if lm B (rq_set σ o r) * n + rq_set σ o r o = j then 1 else 0) else 0) = rq_sum n (fun r => if r = j % n then (if lm B σ = j / n then 1 else 0) else 0) := rq_sum_c _ (fun r hr => by
        rw [if_pos (hA'o _), rq_set_s, rq_loc_set (b B hB) hB σ]
        by_cases cr : r = j % n
        · rw [if_pos cr]
          by_cases cm : lm B σ = j / n
          · rw [if_pos cm, if_pos (by rw [cm, cr, Nat.mul_comm]; exact dm)]
          · rw [if_neg cm, if_neg (fun z => cm (by rw [← z, q2 _ _ hr]))]
        · rw [if_neg cr, if_neg (fun z => cr (by rw [← z, q1 _ _ hr]))])
      rw [e2, rq_sum_1, if_pos ml]
    · rw [rx_up_n (l := l) cl] at hj ⊢
      rw [rx_up_n (l := l) cl, f l (by omega) j hj]
      exact (rq_SM_a l 0 _ _ (fun b _ hb => ⟨hT' b (by omega), hA' b (by omega)⟩)).symm
end
end
section
/-! lanes: rows left out -/
theorem rx_rk_surj (kp : Nat → Bool) : ∀ L q, q < rx_rk kp L → ∃ j, j < L ∧ kp j = true ∧ rx_rk kp j = q := by
  intro L
  induction L with
  | zero => intro q h; exact absurd h (Nat.not_lt_zero q)
  | succ L ih =>
    intro q h
    by_cases c : q < rx_rk kp L
    · obtain ⟨j, h1, h2, h3⟩ := ih q c
      exact ⟨j, by omega, h2, h3⟩
    · by_cases ck : kp L = true
      · have e : rx_rk kp (L + 1) = rx_rk kp L + 1 := if_pos ck
        exact ⟨L, by omega, ck, by omega⟩
      · have e : rx_rk kp (L + 1) = rx_rk kp L := if_neg ck
        omega
theorem rx_rk_inj {kp : Nat → Bool} {i j : Nat} (hi : kp i = true) (hj : kp j = true) (e : rx_rk kp i = rx_rk kp j) : i = j := by
  by_cases c1 : i < j
  · have := rx_rk_lt hi c1; omega
  · by_cases c2 : j < i
    · have := rx_rk_lt hj c2; omega
    · omega
theorem rx_rk_filter (kp P P' : Nat → Bool) : ∀ L, (∀ j, j < L → kp j = true → P' (rx_rk kp j) = P j) → (List.range (rx_rk kp L)).filter P' = ((List.range L).filter (fun j => P j && kp j)).map (rx_rk kp) := by
  intro L
  induction L with
  | zero => intro _; rfl
  | succ L ih =>
    intro h
    have i1 := ih (fun j hj => h j (by omega))
    rw [List.range_succ (n := L), List.filter_append, List.map_append, ← i1]
    by_cases ck : kp L = true
    · have e : rx_rk kp (L + 1) = rx_rk kp L + 1 := if_pos ck
      have hp := h L (by omega) ck
      rw [e, List.range_succ, List.filter_append]
      by_cases cp : P L = true
      · rw [List.filter_cons_of_pos (by rw [hp]; exact cp), List.filter_cons_of_pos (by rw [cp, ck]; rfl)]; rfl
      · rw [List.filter_cons_of_neg (by rw [hp]; exact cp), List.filter_cons_of_neg (by rw [Bool.eq_false_iff.mpr cp, Bool.false_and]; decide)]; rfl
    · have e : rx_rk kp (L + 1) = rx_rk kp L := if_neg ck
      rw [e, List.filter_cons_of_neg (by rw [Bool.eq_false_iff.mpr ck, Bool.and_false]; decide)]
      exact (List.append_nil _).symm
section
variable {k : Nat} {N T : Nat → Nat} {A : Nat → (Nat → Nat) → Bool} {L H : Nat → Nat} {U R Wt : Nat → Nat → Nat} {lm : Nat → (Nat → Nat) → Nat}
theorem rx_XG_where {A' : Nat → (Nat → Nat) → Bool} {Vt : (Nat → Nat) → Int32} {kp : Nat → Bool} {U' R' Wt' : Nat → Nat} (h : rx_XG (k + 1) N T A L H U R Wt lm) (hA : ∀ b, b < k + 1 → rq_loc (b + 1) (A b)) (hA' : ∀ b, b < k → A' b = A b) (hAk : ∀ ρ, A' k ρ = if Vt ρ = 0 then false else A k ρ) (hkp : ∀ ρ, rq_Al N T A (k + 1) ρ → kp (lm (k + 1) ρ) = if Vt ρ = 0 then false else true)
    (hU : ∀ j, j < L (k + 1) → kp j = true → U' (rx_rk kp j) = U (k + 1) j) (hR : ∀ j, j < L (k + 1) → kp j = true → R' (rx_rk kp j) = R (k + 1) j) (hW : ∀ j, j < L (k + 1) → kp j = true → Wt' (rx_rk kp j) = Wt (k + 1) j) :
    rx_XG (k + 1) N T A' (rx_up L (k + 1) (rx_rk kp (L (k + 1)))) H (rx_up U (k + 1) U') (rx_up R (k + 1) R') (rx_up Wt (k + 1) Wt') (rx_up lm (k + 1) (fun ρ => rx_rk kp (lm (k + 1) ρ))) := by
  have hlt := fun l hl ρ hA => rx_XG_lt (l := l) (ρ := ρ) h hl hA
  obtain ⟨a, b, c, d, e, f⟩ := h
  have al : ∀ l ρ, l ≤ k → rq_Al N T A' l ρ → rq_Al N T A l ρ := fun l ρ hl hx => rq_Al_c hx (fun _ _ => rfl) (fun b hb => (hA' b (by omega)).symm)
  have alk : ∀ ρ, rq_Al N T A' (k + 1) ρ → rq_Al N T A (k + 1) ρ ∧ Vt ρ ≠ 0 := fun ρ hx => by
    obtain ⟨x1, x2⟩ := hx k (by omega)
    rw [hAk] at x2
    by_cases cv : Vt ρ = 0
    · rw [if_pos cv] at x2; exact absurd x2 (by decide)
    · rw [if_neg cv] at x2
      refine ⟨fun b hb => ?_, cv⟩
      by_cases cb : b = k
      · rw [cb]; exact ⟨x1, x2⟩
      · exact al k ρ (Nat.le_refl k) (rq_Al_mono hx (by omega)) b (by omega)
  have kpt : ∀ ρ, rq_Al N T A' (k + 1) ρ → kp (lm (k + 1) ρ) = true := fun ρ hx => by
    obtain ⟨x1, x2⟩ := alk ρ hx
    rw [hkp ρ x1, if_neg x2]
  have als : ∀ σ r, rq_Al N T A k σ → r < N (T k) → A k (rq_set σ k r) = true → rq_Al N T A (k + 1) (rq_set σ k r) := fun σ r h1 h2 h3 b hb => by
    by_cases cb : b = k
    · rw [cb, rq_set_s]; exact ⟨h2, h3⟩
    · rw [rq_set_o cb, rq_loc_set (hA b (by omega)) (by omega) σ]; exact h1 b (by omega)
  refine ⟨⟨by rw [rx_up_n (by omega)]; exact a.1, fun ρ => by rw [rx_up_n (by omega)]; exact a.2 ρ⟩, fun l hl => ?_, fun l hl => ?_, fun l hl ρ hAl => ?_, fun l hl ρ hAl => ?_, fun l hl j hj => ?_⟩
  · by_cases cl : l = k + 1
    · rw [cl, rx_up_s]
      intro ρ σ hx
      dsimp only
      rw [b (k + 1) (Nat.le_refl _) ρ σ hx]
    · rw [rx_up_n cl]; exact b l hl
  · obtain ⟨c1, c2, c3, c4⟩ := c l hl
    by_cases cl : l = k
    · subst cl
      simp only [rx_up_s]
      refine ⟨c1, fun q hq => ?_, c3, fun q q' hqq hq' => ?_⟩
      · obtain ⟨j, j1, j2, j3⟩ := rx_rk_surj kp _ q hq
        rw [← j3, hU j j1 j2, hR j j1 j2, rx_up_n (by omega)]
        exact c2 j j1
      · obtain ⟨j, j1, j2, j3⟩ := rx_rk_surj kp _ q (Nat.lt_of_le_of_lt hqq hq')
        obtain ⟨j', g1, g2, g3⟩ := rx_rk_surj kp _ q' hq'
        rw [← j3, ← g3, hU j j1 j2, hU j' g1 g2]
        refine c4 j j' (Nat.le_of_not_lt (fun z => ?_)) g1
        have := rx_rk_lt g2 z
        omega
    · rw [rx_up_n (l := l + 1) (by omega), rx_up_n (l := l + 1) (by omega), rx_up_n (l := l + 1) (by omega)]
      refine ⟨c1, fun j hj => ?_, c3, c4⟩
      rw [rx_up_n (by omega)]; exact c2 j hj
  · obtain ⟨c1, -⟩ := c l hl
    by_cases cl : l = k
    · subst cl
      simp only [rx_up_s]
      obtain ⟨x1, x2⟩ := alk ρ hAl
      obtain ⟨d1, d2, d3⟩ := d l hl ρ x1
      have kk := kpt ρ hAl
      refine ⟨rx_rk_lt kk d1, ?_, ?_⟩
      · rw [hR _ d1 kk]; exact d2
      · rw [hU _ d1 kk, rx_up_n (by omega)]; exact d3
    · rw [rx_up_n (l := l + 1) (by omega), rx_up_n (l := l + 1) (by omega), rx_up_n (l := l + 1) (by omega), rx_up_n (l := l + 1) (by omega), rx_up_n (l := H (l + 1)) (by omega)]
      exact d l hl ρ (al (l + 1) ρ (by omega) hAl)
  · obtain ⟨c1, -⟩ := c l hl
    by_cases cl : l = k
    · subst cl
      simp only [rx_up_s]
      have hal := al l ρ (Nat.le_refl l) hAl
      have e0 := e l hl ρ hal
      rw [rx_up_n (l := H (l + 1)) (by omega)]
      rw [rx_rk_filter kp (fun j => decide (U (l + 1) j = lm (H (l + 1)) ρ)) _ _ (fun j j1 j2 => by rw [hU j j1 j2])]
      have e1 : (List.range (L (l + 1))).filter (fun j => decide (U (l + 1) j = lm (H (l + 1)) ρ) && kp j) = ((List.range (L (l + 1))).filter (fun j => decide (U (l + 1) j = lm (H (l + 1)) ρ))).filter kp := by
        rw [List.filter_filter]
        exact List.filter_congr (fun x _ => Bool.and_comm _ _)
      rw [e1, e0, List.filter_map, List.map_map]
      have e2 : rq_rows (N (T l)) (fun r => A' l (rq_set ρ l r)) = (rq_rows (N (T l)) (fun r => A l (rq_set ρ l r))).filter (kp ∘ fun r => lm (l + 1) (rq_set ρ l r)) := by
        unfold rq_rows
        rw [List.filter_filter]
        refine List.filter_congr (fun r hr => ?_)
        have hr := List.mem_range.mp hr
        rw [hAk]
        by_cases cA : A l (rq_set ρ l r) = true
        · have := hkp _ (als ρ r hal hr cA)
          show _ = (kp (lm (l + 1) (rq_set ρ l r)) && _)
          rw [this, cA]
          split <;> rfl
        · rw [Bool.eq_false_iff.mpr cA, Bool.and_false]
          split <;> rfl
      rw [e2]
      rfl
    · rw [rx_up_n (l := l + 1) (by omega), rx_up_n (l := l + 1) (by omega), rx_up_n (l := l + 1) (by omega), rx_up_n (l := H (l + 1)) (by omega), hA' l (by omega)]
      exact e l hl ρ (al l ρ (by omega) hAl)
  · by_cases cl : l = k + 1
    · subst cl
      simp only [rx_up_s] at hj ⊢
      obtain ⟨q, j1, j2, j3⟩ := rx_rk_surj kp _ j hj
      rw [← j3, hW q j1 j2, f (k + 1) (Nat.le_refl _) q j1, rq_SM_s, rq_SM_s, Nat.zero_add]
      rw [rq_SM_a (T := T) (A := A') (T' := T) (A' := A) k 0 _ _ (fun b _ hb => ⟨rfl, hA' b (by omega)⟩)]
      refine rq_SM_c k 0 _ _ _ (fun b hb => hA b (by omega)) (fun σ _ h2 => rq_sum_c _ (fun r hr => ?_))
      have hal : rq_Al N T A k σ := fun b hb => h2 b (Nat.zero_le b) (by omega)
      rw [hAk]
      by_cases cA : A k (rq_set σ k r) = true
      · have hs := als σ r hal hr cA
        have hk2 := hkp _ hs
        rw [if_pos cA]
        by_cases cv : Vt (rq_set σ k r) = 0
        · rw [if_pos cv, if_neg (show ¬ (false = true) by decide)]
          refine if_neg (fun z => ?_)
          rw [if_pos cv, z, j2] at hk2
          exact absurd hk2 (by decide)
        · rw [if_neg cv, if_pos cA]
          rw [if_neg cv] at hk2
          by_cases cq : lm (k + 1) (rq_set σ k r) = q
          · rw [if_pos cq, if_pos (by rw [cq])]
          · rw [if_neg cq, if_neg (fun z => cq (rx_rk_inj hk2 j2 z))]
      · rw [if_neg cA]
        by_cases cv : Vt (rq_set σ k r) = 0
        · rw [if_pos cv, if_neg (show ¬ (false = true) by decide)]
        · rw [if_neg cv, if_neg cA]
    · rw [rx_up_n (l := l) cl] at hj ⊢
      rw [rx_up_n (l := l) cl, f l hl j hj]
      exact (rq_SM_a l 0 _ _ (fun b _ hb => ⟨rfl, hA' b (by omega)⟩)).symm
end
end
section
/-! the component: carrying one token out keeps the picture -/
def rx_XI (K : Nat → Nat) (a : Nat → Int32) (N : Nat → Nat) (cl : Nat → Nat → Nat → Int32) (s i : Nat) (L H : Nat → Nat) (U R Wt : Nat → Nat → Nat) (lm : Nat → (Nat → Nat) → Nat) (LV CE : Nat → Nat) (ho tB la ro un we lo nu : Nat → Int32) : Prop :=
  rx_XG (rq_o K i) N (rq_T K a i) (rq_A K a N cl i) L H U R Wt lm ∧
  (∀ l, l ≤ rq_o K i → la l = nI (L l) ∧ L l ≤ 6 ^ l) ∧
  (∀ l, l < rq_o K i → ho (l + 1) = nI (H (l + 1)) ∧ tB (l + 1) = nI (rq_T K a i l) ∧ ∀ j, j < L (l + 1) → un (216 * (l + 1) + j) = nI (U (l + 1) j) ∧ ro (216 * (l + 1) + j) = nI (R (l + 1) j)) ∧
  (∀ l, l ≤ rq_o K i → ∀ j, j < L l → we (216 * l + j) = nI (Wt l j)) ∧
  (∀ l, l < rq_o K i → ∀ p, i ≤ p → p < s → K p = 1 → (∀ q, i ≤ q → q ≤ p → l < rq_o K q) → rx_an a p / 3 < l → rx_an a p / 3 + 1 ≤ H (l + 1)) ∧
  (∀ e, e < rq_h K i → lo e = nI (LV e) ∧ LV e ≤ CE e ∧ CE e ≤ rq_o K i ∧ (∀ b, b < rq_o K i → (e < rq_fl K i b ↔ CE e ≤ b)) ∧ (∀ m, LV e < m → m ≤ CE e → LV e ≤ H m) ∧ ∀ ρ, rq_Al N (rq_T K a i) (rq_A K a N cl i) (CE e) ρ → nu (216 * e + lm (LV e) ρ) = rq_V K a N cl i e ρ)
def rx_XX (K : Nat → Nat) (a : Nat → Int32) (N : Nat → Nat) (cl : Nat → Nat → Nat → Int32) (s i : Nat) (ho tB la ro un we lo nu : Nat → Int32) : Prop :=
  ∃ (L H : Nat → Nat) (U R Wt : Nat → Nat → Nat) (lm : Nat → (Nat → Nat) → Nat) (LV CE : Nat → Nat), rx_XI K a N cl s i L H U R Wt lm LV CE ho tB la ro un we lo nu
theorem rx_p6 {l x : Nat} (h : x ≤ 6 ^ l) (hl : l ≤ 3) : x ≤ 216 := Nat.le_trans h (show 6 ^ l ≤ 6 ^ 3 from Nat.pow_le_pow_right (by decide) hl)
theorem rx_Tn {K : Nat → Nat} {a : Nat → Int32} {i : Nat} (h : K i ≠ 10) : rq_T K a (i + 1) = rq_T K a i := by
  funext b
  unfold rq_T
  rw [(rq_sn h).2]
theorem rx_fln {K : Nat → Nat} {i : Nat} (h : K i ≠ 10) : rq_fl K (i + 1) = rq_fl K i := by
  funext b
  exact (rq_sn h).1 b
section
variable {K : Nat → Nat} {N : Nat → Nat} {cl : Nat → Nat → Nat → Int32} {s i : Nat} {L H : Nat → Nat} {U R Wt : Nat → Nat → Nat} {lm : Nat → (Nat → Nat) → Nat} {LV CE : Nat → Nat} {ar ho tB la ro un we lo nu : Nat → Int32}
/-- a new number on the stack, within a block -/
theorem rx_push {f lvn : Nat} {nu' : Nat → Int32} (hi : i < s) (hW : rq_WF K ar s) (h9 : K i ≤ 9) (I : rx_XI K ar N cl s i L H U R Wt lm LV CE ho tB la ro un we lo nu) (hf : rq_h K (i + 1) = f + 1) (hfh : f ≤ rq_h K i) (hfl : rq_lo K i ≤ f) (hV : ∀ e, e < f → rq_V K ar N cl (i + 1) e = rq_V K ar N cl i e) (hnu : ∀ x, x < 216 * f → nu' x = nu x) (hlv : lvn ≤ rq_o K i) (hch : ∀ m, lvn < m → m ≤ rq_o K i → lvn ≤ H m) (hval : ∀ ρ, rq_Al N (rq_T K ar i) (rq_A K ar N cl i) (rq_o K i) ρ → nu' (216 * f + lm lvn ρ) = rq_V K ar N cl (i + 1) f ρ) :
    rx_XX K ar N cl s (i + 1) ho tB la ro un we (upd lo f (nI lvn)) nu' := by
  obtain ⟨G, a1, a2, a3, a4, a5⟩ := I
  have c10 : K i ≠ 10 := by omega
  obtain ⟨h6, h3, hfm, hm, -⟩ := rq_st (a := ar) i (fun q hq => hW q (by omega))
  have eo := (rq_sS h9).2
  have eT := rx_Tn (a := ar) c10
  have eF := rx_fln c10
  have eA := @rq_Ae K ar N cl i c10 (by omega)
  refine ⟨L, H, U, R, Wt, lm, rx_up LV f lvn, rx_up CE f (rq_o K i), ?_⟩
  unfold rx_XI
  rw [eo, eT, eF, eA, hf]
  refine ⟨G, a1, a2, a3, fun l hl p h1 h2 h3 h4 h5 => a4 l hl p (by omega) h2 h3 (fun q q1 q2 => ?_) h5, fun e he => ?_⟩
  · by_cases c : q = i
    · rw [c]; exact hl
    · exact h4 q (by omega) q2
  · by_cases c : e = f
    · rw [c, pk_us, rx_up_s, rx_up_s]
      refine ⟨rfl, hlv, Nat.le_refl _, fun b hb => ⟨fun z => ?_, fun z => ?_⟩, hch, hval⟩
      · have := rq_lo_le hm hb; omega
      · omega
    · obtain ⟨b1, b2, b3, b4, b5, b6⟩ := a5 e (by omega)
      rw [pk_un c, rx_up_n c, rx_up_n c]
      refine ⟨b1, b2, b3, b4, b5, fun ρ hρ => ?_⟩
      have := rx_XG_lt G (l := LV e) (by omega) (rq_Al_mono hρ b2)
      have := rx_p6 (a1 (LV e) (by omega)).2 (by omega)
      rw [hV e (by omega), hnu _ (by omega)]
      exact b6 ρ hρ
/-- what a block's own numbers are kept for -/
theorem rx_own (I : rx_XI K ar N cl s i L H U R Wt lm LV CE ho tB la ro un we lo nu) (hm : ∀ b c, b ≤ c → c < rq_o K i → rq_fl K i b ≤ rq_fl K i c) {e : Nat} (he : e < rq_h K i) (hlo : rq_lo K i ≤ e) : CE e = rq_o K i := by
  obtain ⟨b1, b2, b3, b4, b5, b6⟩ := I.2.2.2.2.2 e he
  refine Nat.le_antisymm b3 (Nat.le_of_not_lt (fun z => ?_))
  have := (b4 (CE e) z).mpr (Nat.le_refl _)
  have := rq_lo_le hm z
  omega
theorem rx_SS (I : rx_XI K ar N cl s i L H U R Wt lm LV CE ho tB la ro un we lo nu) (h3 : rq_o K i ≤ 3) : (∀ l, l ≤ rq_o K i → la l = nI (L l) ∧ L l ≤ 216) ∧ (∀ l, 0 < l → l ≤ rq_o K i → ho l = nI (H l) ∧ H l < l ∧ ∀ j, j < L l → un (216 * l + j) = nI (U l j) ∧ U l j < L (H l)) := by
  obtain ⟨G, a1, a2, a3, a4, a5⟩ := I
  refine ⟨fun l hl => ⟨(a1 l hl).1, rx_p6 (a1 l hl).2 (by omega)⟩, fun l h0 hl => ?_⟩
  obtain ⟨l', rfl⟩ : ∃ l', l = l' + 1 := ⟨l - 1, by omega⟩
  obtain ⟨c1, c2, c3⟩ := a2 l' (by omega)
  obtain ⟨d1, d2, -⟩ := G.2.2.1 l' (by omega)
  exact ⟨c1, by omega, fun j hj => ⟨(c3 j hj).1, (d2 j hj).1⟩⟩
variable {sz hh oo lv dp kn fd : Int32} {rc ce kd bn ti : Nat → Int32}
theorem rx_c0 {post : SX → Prop} (hs : s ≤ 48) (hk : ∀ q, q < s → kd q = nI (K q)) (hW : rq_WF K ar s) (hi : i < s) (k0 : K i = 0) (hX : rx_XX K ar N cl s i ho tB la ro un we lo nu)
    (hp : ∀ ho' tB' la' ro' un' we' lo' nu' : Nat → Int32, rx_XX K ar N cl s (i + 1) ho' tB' la' ro' un' we' lo' nu' → post (nI s, hh, oo, nI (rq_o K (i + 1)), nI (rq_h K (i + 1)), kn, fd, rc, ce, kd, ar, bn, ho', tB', la', ro', un', we', lo', nu', ti)) : wpX_carry post (nI s, hh, oo, nI (rq_o K i), nI (rq_h K i), kn, fd, rc, ce, kd, ar, bn, ho, tB, la, ro, un, we, lo, nu, ti) (nI i) := by
  obtain ⟨L, H, U, R, Wt, lm, LV, CE, I⟩ := hX
  obtain ⟨k17, -, -, hl, hE, hP, hR⟩ := hW i hi
  obtain ⟨e1, e2⟩ := rq_sS (show K i ≤ 9 by omega)
  have t0 : rq_tk (K i) = 0 := rq_tk0 _ (by omega)
  have h6 := hP (by omega) (by omega) t0
  have eh : rq_h K (i + 1) = rq_h K i + 1 := by omega
  have hx : rx_XX K ar N cl s (i + 1) ho tB la ro un we (upd lo (rq_h K i) (nI 0)) (upd nu (216 * rq_h K i) (ar i)) := by
    refine rx_push hi hW (by omega) I eh (Nat.le_refl _) (by omega) (fun e he => ?_) (fun x hx => pk_un (by omega)) (Nat.zero_le _) (fun m _ _ => Nat.zero_le _) (fun ρ _ => ?_)
    · funext ρ
      rw [rq_V0 k0, if_neg (by omega)]
    · rw [I.1.1.2 ρ, Nat.add_zero, pk_us, rq_V0 k0, if_pos rfl]
  have P := hp _ _ _ _ _ _ _ _ hx
  rw [e2, eh] at P
  unfold wpX_carry
  have e216 : (216 : Int32) * nI (rq_h K i) = nI (216 * rq_h K i) := by rw [show (216 : Int32) = nI 216 from rfl, pk_mul]
  refine ⟨vp_in_nI (by omega) (by decide), nm_r (e' := nI 0) (by rw [nI_clamp (by omega), hk i hi, k0]) (br_t rfl ⟨vp_in_nI (by omega) (by decide), nm_r (e' := upd lo (rq_h K i) (nI 0)) (by rw [nI_clamp (by omega)]; rfl) ⟨vp_in_nI (by omega) (by decide), ?_⟩⟩)⟩
  rw [e216, nI_clamp (n := 216 * rq_h K i) (by omega), nI_clamp (n := i) (by omega)]
  exact ⟨vp_in_nI (by omega) (by decide), nm_e (nm_r (nI_1 _) P)⟩
theorem rx_c1 {post : SX → Prop} (hs : s ≤ 48) (hk : ∀ q, q < s → kd q = nI (K q)) (hW : rq_WF K ar s) (hN : ∀ t, t < 3 → rc t = nI (N t) ∧ N t ≤ 6) (hce : ∀ t r c, t < 3 → r < N t → c < 3 → ce (18 * t + 3 * r + c) = cl t r c) (hi : i < s) (k1 : K i = 1) (hX : rx_XX K ar N cl s i ho tB la ro un we lo nu)
    (hp : ∀ ho' tB' la' ro' un' we' lo' nu' : Nat → Int32, rx_XX K ar N cl s (i + 1) ho' tB' la' ro' un' we' lo' nu' → post (nI s, hh, oo, nI (rq_o K (i + 1)), nI (rq_h K (i + 1)), kn, fd, rc, ce, kd, ar, bn, ho', tB', la', ro', un', we', lo', nu', ti)) : wpX_carry post (nI s, hh, oo, nI (rq_o K i), nI (rq_h K i), kn, fd, rc, ce, kd, ar, bn, ho, tB, la, ro, un, we, lo, nu, ti) (nI i) := by
  obtain ⟨L, H, U, R, Wt, lm, LV, CE, I⟩ := hX
  obtain ⟨k17, hC, -, hl, hE, hP, hR⟩ := hW i hi
  obtain ⟨j, hj, ej, hjo⟩ := hC k1
  clear hC
  obtain ⟨e1, e2⟩ := rq_sS (show K i ≤ 9 by omega)
  have t0 : rq_tk (K i) = 0 := rq_tk0 _ (by omega)
  have h6 := hP (by omega) (by omega) t0
  have eh : rq_h K (i + 1) = rq_h K i + 1 := by omega
  obtain ⟨-, h3, -, -, hb⟩ := rq_st (a := ar) i (fun q hq => hW q (by omega))
  obtain ⟨g1, g2, -⟩ := hb (j / 3) hjo
  obtain ⟨t, ht, et⟩ := (hW _ (show rq_bg K i (j / 3) < s by omega)).2.2.1 g2
  have eT : rq_T K ar i (j / 3) = t := by unfold rq_T; rw [et]; exact nI_clamp (by omega)
  have I' := I
  obtain ⟨G, a1, a2, a3, a4, a5⟩ := I'
  obtain ⟨c1, c2, c3⟩ := a2 (j / 3) hjo
  obtain ⟨d1, d2, -⟩ := G.2.2.1 (j / 3) hjo
  rw [eT] at c2 d2
  have n6 := (hN t ht).2
  have hL := a1 (j / 3 + 1) (by omega)
  have L2 := rx_p6 hL.2 (by omega)
  have ean : rx_an ar i = j := by unfold rx_an; rw [ej]; exact nI_clamp (by omega)
  have hx : rx_XX K ar N cl s (i + 1) ho tB la ro un we (upd lo (rq_h K i) (nI (j / 3 + 1))) (rx_fl nu (216 * rq_h K i) (L (j / 3 + 1)) (fun q => ce (18 * t + 3 * R (j / 3 + 1) q + j % 3))) := by
    refine rx_push hi hW (by omega) I eh (Nat.le_refl _) (by omega) (fun e he => ?_) (fun x hx => rx_fl_out (by omega)) (by omega) (fun m h1 h2 => ?_) (fun ρ hρ => ?_)
    · funext ρ
      rw [rq_V1 k1, if_neg (by omega)]
    · obtain ⟨m', rfl⟩ : ∃ m', m = m' + 1 := ⟨m - 1, by omega⟩
      have := a4 m' (by omega) i (Nat.le_refl i) hi k1 (fun q q1 q2 => by rw [show q = i by omega]; omega) (by omega)
      omega
    · have hal : rq_Al N (rq_T K ar i) (rq_A K ar N cl i) (j / 3 + 1) ρ := rq_Al_mono hρ (by omega)
      obtain ⟨x1, x2, -⟩ := G.2.2.2.1 (j / 3) hjo ρ hal
      have x3 := (hal (j / 3) (by omega)).1
      rw [eT] at x3
      rw [rx_fl_in x1, x2, rq_V1 k1, if_pos rfl, ej, nI_clamp (by omega), eT]
      exact hce t _ _ ht x3 (by omega)
  have P := hp _ _ _ _ _ _ _ _ hx
  rw [e2, eh] at P
  have e3 : nI j / 3 = nI (j / 3) := pk_div (d := 3) (by omega) (by decide) (by decide)
  have e4 : nI j - nI j / 3 * 3 = nI (j % 3) := pk_rem (d := 3) (by omega) (by decide) (by decide)
  have hv : vp_in (nI i) 48 := vp_in_nI (by omega) (by decide)
  unfold wpX_carry
  refine ⟨hv, nm_r (e' := nI 1) (by rw [nI_clamp (by omega), hk i hi, k1]) (br_f (by decide) (br_t rfl ⟨hv, by decide, hv, by decide, ?_⟩))⟩
  rw [nI_clamp (n := i) (by omega), ej, e4, e3, nI_1]
  exact rx_pushCell (by omega) (by omega) hL.1 L2 c2 ht (by omega) (fun q hq => ⟨(c3 q hq).2, by have := (d2 q hq).2; omega⟩) P
theorem rx_c2 {post : SX → Prop} (hs : s ≤ 48) (hk : ∀ q, q < s → kd q = nI (K q)) (hW : rq_WF K ar s) (hi : i < s) (k2 : 2 ≤ K i) (k9 : K i ≤ 9) (hX : rx_XX K ar N cl s i ho tB la ro un we lo nu)
    (hp : ∀ ho' tB' la' ro' un' we' lo' nu' : Nat → Int32, rx_XX K ar N cl s (i + 1) ho' tB' la' ro' un' we' lo' nu' → post (nI s, hh, oo, nI (rq_o K (i + 1)), nI (rq_h K (i + 1)), kn, fd, rc, ce, kd, ar, bn, ho', tB', la', ro', un', we', lo', nu', ti)) : wpX_carry post (nI s, hh, oo, nI (rq_o K i), nI (rq_h K i), kn, fd, rc, ce, kd, ar, bn, ho, tB, la, ro, un, we, lo, nu, ti) (nI i) := by
  obtain ⟨L, H, U, R, Wt, lm, LV, CE, I⟩ := hX
  obtain ⟨k17, -, -, hl, hE, hP, hR⟩ := hW i hi
  obtain ⟨e1, e2⟩ := rq_sS k9
  obtain ⟨h6, h3, -, hm, -⟩ := rq_st (a := ar) i (fun q hq => hW q (by omega))
  have htk : rq_tk (K i) = if K i ≤ 8 then 2 else 1 := by
    by_cases c : K i ≤ 8
    · rw [if_pos c]; exact rq_tk2 _ k2 c
    · rw [if_neg c, show K i = 9 by omega]; rfl
  have htk1 : 1 ≤ rq_tk (K i) := by rw [htk]; split <;> decide
  obtain ⟨f, hf⟩ : ∃ f, rq_h K i = f + rq_tk (K i) := ⟨rq_h K i - rq_tk (K i), by omega⟩
  have eh : rq_h K (i + 1) = f + 1 := by omega
  have I' := I
  obtain ⟨G, a1, a2, a3, a4, a5⟩ := I'
  obtain ⟨S1, S2⟩ := rx_SS I h3
  have o1 := rx_own I hm (e := f) (by omega) (by omega)
  obtain ⟨b1, b2, b3, b4, b5, b6⟩ := a5 f (by omega)
  rw [o1] at b2 b5 b6
  obtain ⟨t2, ht2⟩ : ∃ t2, t2 = if K i ≤ 8 then LV (f + 1) else LV f := ⟨_, rfl⟩
  have E2 : K i ≤ 8 → t2 = LV (f + 1) ∧ lo (f + 1) = nI t2 ∧ t2 ≤ rq_o K i ∧ (∀ m, t2 < m → m ≤ rq_o K i → t2 ≤ H m) ∧ ∀ ρ, rq_Al N (rq_T K ar i) (rq_A K ar N cl i) (rq_o K i) ρ → nu (216 * (f + 1) + lm t2 ρ) = rq_V K ar N cl i (f + 1) ρ := fun c => by
    rw [if_pos c] at htk ht2
    have o2 := rx_own I hm (e := f + 1) (by omega) (by omega)
    obtain ⟨g1, g2, g3, g4, g5, g6⟩ := a5 (f + 1) (by omega)
    rw [o2] at g2 g5 g6
    rw [ht2]
    exact ⟨rfl, g1, g2, g5, g6⟩
  have t2o : t2 ≤ rq_o K i ∧ (∀ m, t2 < m → m ≤ rq_o K i → t2 ≤ H m) := by
    by_cases c : K i ≤ 8
    · exact ⟨(E2 c).2.2.1, (E2 c).2.2.2.1⟩
    · rw [if_neg c] at ht2
      rw [ht2]; exact ⟨b2, b5⟩
  obtain ⟨l, hl2⟩ : ∃ l, l = if K i ≤ 8 ∧ LV f < t2 then t2 else LV f := ⟨_, rfl⟩
  have lle : l ≤ rq_o K i ∧ LV f ≤ l ∧ (K i ≤ 8 → t2 ≤ l) ∧ (∀ m, l < m → m ≤ rq_o K i → l ≤ H m) := by
    by_cases c : K i ≤ 8 ∧ LV f < t2
    · rw [if_pos c] at hl2
      rw [hl2]; exact ⟨t2o.1, by omega, fun _ => Nat.le_refl _, t2o.2⟩
    · rw [if_neg c] at hl2
      rw [hl2]; exact ⟨b2, Nat.le_refl _, fun z => Nat.le_of_not_lt (fun z2 => c ⟨z, z2⟩), b5⟩
  obtain ⟨lle, lf, lt2, lch⟩ := lle
  obtain ⟨L1, L2⟩ := S1 l lle
  obtain ⟨val, hval⟩ : ∃ val : Nat → Int32, ∀ j, val j = rq_op (K i) (nu (216 * f + rx_la H U (LV f) 3 l j)) (if rq_tk (K i) = 2 then nu (216 * (f + 1) + rx_la H U t2 3 l j) else 0) := ⟨_, fun _ => rfl⟩
  have hx : rx_XX K ar N cl s (i + 1) ho tB la ro un we (upd lo f (nI l)) (rx_fl (rx_fl nu 1296 (L l) val) (216 * f) (L l) (fun j => rx_fl nu 1296 (L l) val (1296 + j))) := by
    refine rx_push hi hW k9 I eh (by omega) (by omega) (fun e he => ?_) (fun x hx => ?_) lle lch (fun ρ hρ => ?_)
    · funext ρ
      by_cases c : K i ≤ 8
      · rw [if_pos c] at htk
        rw [rq_V2 k2 c, if_neg (by omega)]
      · rw [if_neg c] at htk
        rw [rq_V9 (by omega), if_neg (by omega)]
    · rw [rx_fl_out (by omega), rx_fl_out (by omega)]
    · have hal := rq_Al_mono hρ lle
      have x1 := rx_XG_lt G lle hal
      have x2 := rx_la_lm G (tgt := LV f) 3 l ρ (by omega) lle lf (fun m h1 h2 => b5 m h1 (by omega)) hal
      rw [rx_fl_in x1, rx_fl_in x1, hval, x2, b6 ρ hρ]
      by_cases c : K i ≤ 8
      · rw [if_pos c] at htk
        obtain ⟨-, -, -, y4, y5⟩ := E2 c
        have x3 := rx_la_lm G (tgt := t2) 3 l ρ (by omega) lle (lt2 c) (fun m h1 h2 => y4 m h1 (by omega)) hal
        rw [if_pos htk, x3, y5 ρ hρ, rq_V2 k2 c, if_pos (by omega), hf, htk]
        rfl
      · rw [if_neg c] at htk
        rw [if_neg (by omega), rq_V9 (by omega), if_pos (by omega), hf, htk, show K i = 9 by omega]
        rfl
  have P := hp _ _ _ _ _ _ _ _ hx
  rw [e2, eh] at P
  have hv : vp_in (nI i) 48 := vp_in_nI (by omega) (by decide)
  unfold wpX_carry
  refine ⟨hv, nm_r (e' := nI (K i)) (by rw [nI_clamp (by omega), hk i hi]) (br_f (rq_ne (c := 0) (by omega) (by omega) (by decide)) (br_f (rq_ne (c := 1) (by omega) (by omega) (by decide)) (br_f (rq_ne (c := 10) (by omega) (by omega) (by decide)) (br_f (rq_ne (c := 11) (by omega) (by omega) (by decide)) (rx_ends (by omega) (fun z => absurd z (by omega)) (fun _ => br_t rfl ?_))))))⟩
  exact rx_combine (l := l) (L := L l) (G := fun l q => l ≤ rq_o K i ∧ q < L l) (H := H) (U := U) (t1 := LV f) (t2 := t2) (val := val) k2 k9 (by omega) hf h6 b1 (fun c => (E2 c).2.1) L1 L2 (by omega) (by omega) hl2 (fun l q h => ⟨by omega, by have := (S1 l h.1).2; omega, fun c => by
    obtain ⟨x1, x2, x3⟩ := S2 l (by omega) h.1
    exact ⟨x1, (x3 q h.2).1, by omega, (x3 q h.2).2⟩⟩) (fun j hj => ⟨lle, hj⟩) hval P
end
end
section
/-! the component: blocks begun, rows left out, blocks ended; the whole run -/
theorem rx_rk_ex (kp : Nat → Bool) (L : Nat) (f : Nat → Nat) : ∃ g : Nat → Nat, ∀ j, j < L → kp j = true → g (rx_rk kp j) = f j := by
  induction L with
  | zero => exact ⟨fun _ => 0, fun j h => absurd h (Nat.not_lt_zero j)⟩
  | succ L ih =>
    obtain ⟨g, hg⟩ := ih
    by_cases ck : kp L = true
    · refine ⟨rx_up g (rx_rk kp L) (f L), fun j hj hk => ?_⟩
      by_cases c : j = L
      · rw [c, rx_up_s]
      · have := rx_rk_lt hk (show j < L by omega)
        rw [rx_up_n (by omega)]; exact hg j (by omega) hk
    · refine ⟨g, fun j hj hk => ?_⟩
      have c : j ≠ L := fun z => ck (by rw [← z]; exact hk)
      exact hg j (by omega) hk
section
variable {K : Nat → Nat} {N : Nat → Nat} {cl : Nat → Nat → Nat → Int32} {s i : Nat} {ar ho tB la ro un we lo nu : Nat → Int32} {sz hh oo lv dp kn fd : Int32} {rc ce kd bn ti : Nat → Int32}
theorem rx_c10 {post : SX → Prop} (hs : s ≤ 48) (hk : ∀ q, q < s → kd q = nI (K q)) (hW : rq_WF K ar s) (hN : ∀ t, t < 3 → rc t = nI (N t) ∧ N t ≤ 6) (hi : i < s) (k10 : K i = 10) (hX : rx_XX K ar N cl s i ho tB la ro un we lo nu)
    (hp : ∀ ho' tB' la' ro' un' we' lo' nu' : Nat → Int32, rx_XX K ar N cl s (i + 1) ho' tB' la' ro' un' we' lo' nu' → post (nI s, hh, oo, nI (rq_o K (i + 1)), nI (rq_h K (i + 1)), kn, fd, rc, ce, kd, ar, bn, ho', tB', la', ro', un', we', lo', nu', ti)) : wpX_carry post (nI s, hh, oo, nI (rq_o K i), nI (rq_h K i), kn, fd, rc, ce, kd, ar, bn, ho, tB, la, ro, un, we, lo, nu, ti) (nI i) := by
  obtain ⟨L, H, U, R, Wt, lm, LV, CE, I⟩ := hX
  obtain ⟨k17, -, hT, -, -, -, hR⟩ := hW i hi
  obtain ⟨t, ht, et⟩ := hT k10
  clear hT
  have ho3 := hR k10
  obtain ⟨s1, s2, s3, s4⟩ := rq_s10 k10
  obtain ⟨h6, h3, hf, hm, hb⟩ := rq_st (a := ar) i (fun q hq => hW q (by omega))
  have lA := (rq_lc (a := ar) (N := N) (cl := cl) i (fun q hq => hW q (by omega))).2
  obtain ⟨S1, S2⟩ := rx_SS I h3
  have I' := I
  obtain ⟨G, a1, a2, a3, a4, a5⟩ := I'
  obtain ⟨n1, n2⟩ := hN t ht
  have eTo : rq_T K ar (i + 1) (rq_o K i) = t := by unfold rq_T; rw [s4, if_pos rfl, et]; exact nI_clamp (by omega)
  have eTl : ∀ b, b < rq_o K i → rq_T K ar (i + 1) b = rq_T K ar i b := fun b hb1 => by unfold rq_T; rw [s4, if_neg (by omega)]
  have eAl : ∀ b, b < rq_o K i → rq_A K ar N cl (i + 1) b = rq_A K ar N cl i b := fun b hb1 => by funext ρ; rw [rq_A10 k10, if_neg (by omega)]
  have eAo : ∀ ρ, rq_A K ar N cl (i + 1) (rq_o K i) ρ = true := fun ρ => by rw [rq_A10 k10, if_pos rfl]
  have p6 : ∀ l, l ≤ rq_o K i → L l * N t ≤ 6 ^ (rq_o K i + 1) := fun l hl => by
    have := Nat.mul_le_mul (a1 l hl).2 n2
    refine Nat.le_trans this ?_
    rw [← Nat.pow_succ]
    exact Nat.pow_le_pow_right (by decide) (by omega)
  unfold wpX_carry
  refine ⟨vp_in_nI (by omega) (by decide), nm_r (e' := nI 10) (by rw [nI_clamp (by omega), hk i hi, k10]) (br_f (by decide) (br_f (by decide) (br_t rfl ?_)))⟩
  refine rx_begin (n := N t) (t := t) (Lv := L) (H := H) (U := U) (Wt := Wt (rq_o K i)) hs hk hW hi k10 ho3 et ht n1 n2 (fun l hl => ⟨(S1 l hl).1, (S1 l hl).2, rx_p6 (p6 l hl) (by omega)⟩) S2 (fun j hj => a3 _ (Nat.le_refl _) j hj) (fun b hb1 hb2 j hj => rx_la_lt (o := rq_o K i) (rx_XG_S G) 3 (rq_o K i) j (by omega) (Nat.le_refl _) hb1 hb2 hj) (fun b hb1 hb2 m h1 h2 => ?_) (fun b hb1 hch hfu => ?_)
  · rcases hb2 with z | ⟨p, p1, p2, p3, p4, p5⟩
    · omega
    · obtain ⟨m', rfl⟩ : ∃ m', m = m' + 1 := ⟨m - 1, by omega⟩
      have := a4 m' (by omega) p (by omega) p2 p3 (fun q q1 q2 => by
        by_cases c : q = i
        · rw [c]; omega
        · have := p4 q (by omega) q2; omega) (by omega)
      omega
  · have XG := rx_XG_begin (T' := rq_T K ar (i + 1)) (A' := rq_A K ar N cl (i + 1)) (n := N t) (B := b) G h3 lA eTl eAl eAo (by rw [eTo]) hb1 hch
    have bL := S1 b hb1
    have hx : rx_XX K ar N cl s (i + 1) (upd ho (rq_o K i + 1) (nI b)) (upd tB (rq_o K i + 1) (nI t)) (upd la (rq_o K i + 1) (nI (L b * N t))) (rx_fl ro (216 * (rq_o K i + 1)) (L b * N t) (fun x => nI (x % N t))) (rx_fl un (216 * (rq_o K i + 1)) (L b * N t) (fun x => nI (x / N t))) (rx_fl we (216 * (rq_o K i + 1)) (L b * N t) (fun x => rx_fl nu 1296 (L b) (fun m => nI (rq_sum (L (rq_o K i)) (fun j => if rx_la H U b 3 (rq_o K i) j = m then Wt (rq_o K i) j else 0))) (1296 + x / N t))) lo (rx_fl nu 1296 (L b) (fun m => nI (rq_sum (L (rq_o K i)) (fun j => if rx_la H U b 3 (rq_o K i) j = m then Wt (rq_o K i) j else 0)))) := by
      refine ⟨rx_up L (rq_o K i + 1) (L b * N t), rx_up H (rq_o K i + 1) b, rx_up U (rq_o K i + 1) (fun j => j / N t), rx_up R (rq_o K i + 1) (fun j => j % N t), rx_up Wt (rq_o K i + 1) (fun j => rq_sum (L (rq_o K i)) (fun q => if rx_la H U b 3 (rq_o K i) q = j / N t then Wt (rq_o K i) q else 0)), rx_up lm (rq_o K i + 1) (fun ρ => lm b ρ * N t + ρ (rq_o K i)), LV, CE, ?_⟩
      unfold rx_XI
      rw [s2, s1]
      refine ⟨XG, fun l hl => ?_, fun l hl => ?_, fun l hl j hj => ?_, fun l hl p h1 h2 h3 h4 h5 => ?_, fun e he => ?_⟩
      · by_cases c : l = rq_o K i + 1
        · rw [c, pk_us, rx_up_s]; exact ⟨rfl, p6 b hb1⟩
        · rw [pk_un c, rx_up_n c]; exact a1 l (by omega)
      · by_cases c : l = rq_o K i
        · rw [c, pk_us, pk_us, rx_up_s, rx_up_s, rx_up_s, rx_up_s, eTo]
          exact ⟨rfl, rfl, fun j hj => ⟨rx_fl_in hj, rx_fl_in hj⟩⟩
        · obtain ⟨x1, x2, x3⟩ := a2 l (by omega)
          have x4 := S1 (l + 1) (by omega)
          rw [pk_un (by omega), pk_un (by omega), rx_up_n (l := l + 1) (by omega), rx_up_n (l := l + 1) (by omega), rx_up_n (l := l + 1) (by omega), rx_up_n (l := l + 1) (by omega), eTl l (by omega)]
          exact ⟨x1, x2, fun j hj => by rw [rx_fl_out (by omega), rx_fl_out (by omega)]; exact x3 j hj⟩
      · by_cases c : l = rq_o K i + 1
        · subst c
          rw [rx_up_s] at hj ⊢
          have n0 : 0 < N t := Nat.pos_of_ne_zero (fun z => by rw [z] at hj; omega)
          rw [rx_fl_in hj, rx_fl_in ((Nat.div_lt_iff_lt_mul n0).mpr hj)]
        · rw [rx_up_n c] at hj ⊢
          have x4 := S1 l (by omega)
          rw [rx_fl_out (by omega)]
          exact a3 l (by omega) j hj
      · by_cases c : l = rq_o K i
        · rw [c, rx_up_s]
          rw [c] at h5
          exact hfu p (by omega) h2 h3 (fun q q1 q2 => by have := h4 q (by omega) q2; omega) h5
        · rw [rx_up_n (by omega)]
          refine a4 l (by omega) p (by omega) h2 h3 (fun q q1 q2 => ?_) h5
          by_cases cq : q = i
          · rw [cq]; omega
          · exact h4 q (by omega) q2
      · obtain ⟨b1, b2, b3, b4, b5, b6⟩ := a5 e he
        refine ⟨b1, b2, by omega, fun b' hb' => ?_, fun m h1 h2 => ?_, fun ρ hρ => ?_⟩
        · rw [s3]
          by_cases c : b' = rq_o K i
          · rw [if_pos c, c]; exact ⟨fun _ => b3, fun _ => he⟩
          · rw [if_neg c]; exact b4 b' (by omega)
        · rw [rx_up_n (by omega)]; exact b5 m h1 h2
        · have hal : rq_Al N (rq_T K ar i) (rq_A K ar N cl i) (CE e) ρ := rq_Al_c hρ (fun b hb => (eTl b (by omega)).symm) (fun b hb => (eAl b (by omega)).symm)
          have x1 := rx_XG_lt G (l := LV e) (by omega) (rq_Al_mono hal b2)
          have x2 := S1 (LV e) (by omega)
          rw [rx_up_n (by omega), rx_fl_out (by omega), rq_V11 (Or.inl k10)]
          exact b6 ρ hal
    have P := hp _ _ _ _ _ _ _ _ hx
    rw [s1, s2] at P
    exact P
theorem rx_c11 {post : SX → Prop} (hs : s ≤ 48) (hk : ∀ q, q < s → kd q = nI (K q)) (hW : rq_WF K ar s) (hi : i < s) (k11 : K i = 11) (hX : rx_XX K ar N cl s i ho tB la ro un we lo nu)
    (hp : ∀ ho' tB' la' ro' un' we' lo' nu' : Nat → Int32, rx_XX K ar N cl s (i + 1) ho' tB' la' ro' un' we' lo' nu' → post (nI s, hh, oo, nI (rq_o K (i + 1)), nI (rq_h K (i + 1)), kn, fd, rc, ce, kd, ar, bn, ho', tB', la', ro', un', we', lo', nu', ti)) : wpX_carry post (nI s, hh, oo, nI (rq_o K i), nI (rq_h K i), kn, fd, rc, ce, kd, ar, bn, ho, tB, la, ro, un, we, lo, nu, ti) (nI i) := by
  obtain ⟨L, H, U, R, Wt, lm, LV, CE, I⟩ := hX
  obtain ⟨k17, -, -, hl, hE, -, -⟩ := hW i hi
  obtain ⟨hE1, hE2⟩ := hE (by omega)
  have c10 : K i ≠ 10 := by omega
  obtain ⟨s1, s2⟩ := rq_s11 k11
  have t1 : rq_tk (K i) = 1 := by rw [k11]; decide
  obtain ⟨h6, h3, hf, hm, hb⟩ := rq_st (a := ar) i (fun q hq => hW q (by omega))
  have lA := (rq_lc (a := ar) (N := N) (cl := cl) i (fun q hq => hW q (by omega))).2
  obtain ⟨S1, S2⟩ := rx_SS I h3
  obtain ⟨e, he⟩ : ∃ e, rq_h K i = e + 1 := ⟨rq_h K i - 1, by omega⟩
  obtain ⟨k, hko⟩ : ∃ k, rq_o K i = k + 1 := ⟨rq_o K i - 1, by omega⟩
  have o1 := rx_own I hm (e := e) (by omega) (by omega)
  have lok : rq_fl K i k = e := by
    have : rq_lo K i = rq_fl K i (rq_o K i - 1) := by unfold rq_lo; rw [if_neg (by omega)]
    rw [show rq_o K i - 1 = k by omega] at this
    omega
  have I' := I
  obtain ⟨G, a1, a2, a3, a4, a5⟩ := I'
  obtain ⟨b1, b2, b3, b4, b5, b6⟩ := a5 e (by omega)
  rw [o1] at b2 b5 b6
  obtain ⟨kp, hkp⟩ : ∃ kp : Nat → Bool, ∀ j, kp j = if nu (216 * e + rx_la H U (LV e) 3 (rq_o K i) j) = 0 then false else true := ⟨_, fun _ => rfl⟩
  unfold wpX_carry
  refine ⟨vp_in_nI (by omega) (by decide), nm_r (e' := nI 11) (by rw [nI_clamp (by omega), hk i hi, k11]) (br_f (by decide) (br_f (by decide) (br_f (by decide) (br_t rfl ?_))))⟩
  rw [he]
  refine rx_leaveOut (e := e) (o := rq_o K i) (t := LV e) (L := L (rq_o K i)) (Lv := L) (H := H) (U := U) (kp := kp) h3 (by omega) b1 (by omega) rfl S1 (fun l h1 h2 => S2 l (by omega) h2) hkp (fun ro' un' we' c1 c2 c3 => ?_)
  obtain ⟨U', hU'⟩ := rx_rk_ex kp (L (rq_o K i)) (U (rq_o K i))
  obtain ⟨R', hR'⟩ := rx_rk_ex kp (L (rq_o K i)) (R (rq_o K i))
  obtain ⟨W', hW'⟩ := rx_rk_ex kp (L (rq_o K i)) (Wt (rq_o K i))
  have eTT := rx_Tn (a := ar) c10
  have hkpV : ∀ ρ, rq_Al N (rq_T K ar i) (rq_A K ar N cl i) (rq_o K i) ρ → kp (lm (rq_o K i) ρ) = if rq_V K ar N cl i e ρ = 0 then false else true := fun ρ hρ => by
    rw [hkp, rx_la_lm G (tgt := LV e) 3 (rq_o K i) ρ h3 (Nat.le_refl _) b2 b5 hρ, b6 ρ hρ]
  rw [hko] at G lA hkpV hU' hR' hW' c1 c2 c3
  have XG := rx_XG_where (A' := rq_A K ar N cl (i + 1)) (Vt := rq_V K ar N cl i e) (kp := kp) G lA (fun b hb1 => by funext ρ; rw [rq_A11 k11, if_neg (by omega)]) (fun ρ => by rw [rq_A11 k11, if_pos (by omega), he, Nat.add_sub_cancel]) hkpV hU' hR' hW'
  have hx : rx_XX K ar N cl s (i + 1) ho tB (upd la (rq_o K i) (nI (rx_rk kp (L (rq_o K i))))) ro' un' we' lo nu := by
    refine ⟨rx_up L (k + 1) (rx_rk kp (L (k + 1))), H, rx_up U (k + 1) U', rx_up R (k + 1) R', rx_up Wt (k + 1) W', rx_up lm (k + 1) (fun ρ => rx_rk kp (lm (k + 1) ρ)), LV, CE, ?_⟩
    have rkle := rx_rk_le kp (L (k + 1))
    have aAl : ∀ b, b < k → rq_A K ar N cl (i + 1) b = rq_A K ar N cl i b := fun b hb1 => by funext ρ; rw [rq_A11 k11, if_neg (by omega)]
    unfold rx_XI
    rw [s2, s1, he, Nat.add_sub_cancel, eTT, rx_fln c10]
    rw [hko] at a1 a2 a3 a4 a5 S1 S2 ⊢
    refine ⟨XG, fun l hl2 => ?_, fun l hl2 => ?_, fun l hl2 q hq => ?_, fun l hl2 p p1 p2 p3 p4 p5 => ?_, fun x hx => ?_⟩
    · by_cases c : l = k + 1
      · rw [c, pk_us, rx_up_s]; exact ⟨rfl, Nat.le_trans rkle (a1 (k + 1) (Nat.le_refl _)).2⟩
      · rw [pk_un c, rx_up_n c]; exact a1 l hl2
    · obtain ⟨x1, x2, x3⟩ := a2 l hl2
      refine ⟨x1, x2, ?_⟩
      by_cases c : l = k
      · subst c
        rw [rx_up_s, rx_up_s, rx_up_s]
        intro q hq
        obtain ⟨j, j1, j2, j3⟩ := rx_rk_surj kp _ q hq
        rw [← j3, c2.1 j j1 j2, c1.1 j j1 j2, hU' j j1 j2, hR' j j1 j2]
        exact x3 j j1
      · rw [rx_up_n (l := l + 1) (by omega), rx_up_n (l := l + 1) (by omega), rx_up_n (l := l + 1) (by omega)]
        intro q hq
        have x4 := (S1 (l + 1) (by omega)).2
        rw [c2.2 _ (by omega), c1.2 _ (by omega)]
        exact x3 q hq
    · by_cases c : l = k + 1
      · subst c
        rw [rx_up_s] at hq ⊢
        obtain ⟨j, j1, j2, j3⟩ := rx_rk_surj kp _ q hq
        rw [← j3, c3.1 j j1 j2, hW' j j1 j2]
        exact a3 _ hl2 j j1
      · rw [rx_up_n c] at hq ⊢
        have x4 := (S1 l (by omega)).2
        rw [c3.2 _ (by omega)]
        exact a3 l hl2 q hq
    · refine a4 l hl2 p (by omega) p2 p3 (fun q q1 q2 => ?_) p5
      by_cases cq : q = i
      · rw [cq, hko]; exact hl2
      · exact p4 q (by omega) q2
    · obtain ⟨y1, y2, y3, y4, y5, y6⟩ := a5 x (by omega)
      have yk := (y4 k (by omega)).mp (by omega)
      refine ⟨y1, y2, y3, y4, y5, fun ρ hρ => ?_⟩
      have hal : rq_Al N (rq_T K ar i) (rq_A K ar N cl i) (CE x) ρ := rq_Al_c hρ (fun _ _ => rfl) (fun b hb => (aAl b (by omega)).symm)
      rw [rx_up_n (by omega), rq_V11 (Or.inr k11)]
      exact y6 ρ hal
  have P := hp _ _ _ _ _ _ _ _ hx
  rw [s1, s2, he, Nat.add_sub_cancel] at P
  exact P
theorem rx_cE {post : SX → Prop} (hs : s ≤ 48) (hk : ∀ q, q < s → kd q = nI (K q)) (hW : rq_WF K ar s) (hi : i < s) (kE : 12 ≤ K i) (hX : rx_XX K ar N cl s i ho tB la ro un we lo nu)
    (hp : ∀ ho' tB' la' ro' un' we' lo' nu' : Nat → Int32, rx_XX K ar N cl s (i + 1) ho' tB' la' ro' un' we' lo' nu' → post (nI s, hh, oo, nI (rq_o K (i + 1)), nI (rq_h K (i + 1)), kn, fd, rc, ce, kd, ar, bn, ho', tB', la', ro', un', we', lo', nu', ti)) : wpX_carry post (nI s, hh, oo, nI (rq_o K i), nI (rq_h K i), kn, fd, rc, ce, kd, ar, bn, ho, tB, la, ro, un, we, lo, nu, ti) (nI i) := by
  obtain ⟨L, H, U, R, Wt, lm, LV, CE, I⟩ := hX
  obtain ⟨k17, -, -, hl, hE, hP, -⟩ := hW i hi
  obtain ⟨hE1, hE2⟩ := hE (by omega)
  have c10 : K i ≠ 10 := by omega
  have c11 : K i ≠ 11 := by omega
  obtain ⟨s1, s2⟩ := rq_sE kE
  obtain ⟨h6, h3, hf, hm, hb⟩ := rq_st (a := ar) i (fun q hq => hW q (by omega))
  have lA := (rq_lc (a := ar) (N := N) (cl := cl) i (fun q hq => hW q (by omega))).2
  obtain ⟨S1, S2⟩ := rx_SS I h3
  obtain ⟨k, hko⟩ : ∃ k, rq_o K i = k + 1 := ⟨rq_o K i - 1, by omega⟩
  obtain ⟨e, he⟩ : ∃ e, e = rq_lo K i := ⟨_, rfl⟩
  have lok : rq_fl K i k = e := by
    have : rq_lo K i = rq_fl K i (rq_o K i - 1) := by unfold rq_lo; rw [if_neg (by omega)]
    rw [show rq_o K i - 1 = k by omega] at this
    omega
  have eh : rq_h K (i + 1) = e + 1 := by omega
  have he6 : e < 6 := by
    by_cases c : rq_tk (K i) = 0
    · have := hP c10 c11 c; omega
    · omega
  have I' := I
  obtain ⟨G, a1, a2, a3, a4, a5⟩ := I'
  have eTT := rx_Tn (a := ar) c10
  have eAA := @rq_Ae K ar N cl i c10 c11
  have T14 : 14 ≤ K i → rq_tk (K i) = 1 := rq_tk1 _
  have B14 : 14 ≤ K i → lo e = nI (LV e) ∧ LV e ≤ rq_o K i ∧ (∀ m, LV e < m → m ≤ rq_o K i → LV e ≤ H m) ∧ ∀ ρ, rq_Al N (rq_T K ar i) (rq_A K ar N cl i) (rq_o K i) ρ → nu (216 * e + lm (LV e) ρ) = rq_V K ar N cl i e ρ := fun z => by
    have := T14 z
    have o1 := rx_own I hm (e := e) (by omega) (by omega)
    obtain ⟨b1, b2, b3, b4, b5, b6⟩ := a5 e (by omega)
    rw [o1] at b2 b5 b6
    exact ⟨b1, b2, b5, b6⟩
  obtain ⟨c1, c2, c3, c4⟩ := G.2.2.1 k (by omega)
  obtain ⟨val, hval⟩ : ∃ val : Nat → Int32, ∀ j, val j = nu (216 * e + rx_la H U (LV e) 3 (rq_o K i) j) := ⟨_, fun _ => rfl⟩
  have bL := S1 (H (k + 1)) (by omega)
  obtain ⟨gv, hgv⟩ : ∃ gv : Nat → Int32, gv = fun m => rq_gth (K i) (((List.range (L (rq_o K i))).filter (fun j => decide (U (rq_o K i) j = m))).map val) := ⟨_, rfl⟩
  unfold wpX_carry
  refine ⟨vp_in_nI (by omega) (by decide), nm_r (e' := nI (K i)) (by rw [nI_clamp (by omega), hk i hi]) (br_f (rq_ne (c := 0) (by omega) (by omega) (by decide)) (br_f (rq_ne (c := 1) (by omega) (by omega) (by decide)) (br_f (rq_ne (c := 10) c10 (by omega) (by decide)) (br_f (rq_ne (c := 11) c11 (by omega) (by decide)) (rx_ends (by omega) (fun _ => br_f (by decide) ?_) (fun z => absurd z (by omega)))))))⟩
  refine rx_end (e := e) (o := rq_o K i) (B := H (k + 1)) (tgt := LV e) (Lv := L) (H := H) (U := U) (val := val) kE k17 h3 (by omega) (by omega) h6 he6 (by rw [hko]) S1 S2 (by rw [hko]; exact c4) (fun z => ⟨(B14 z).1, by have := (B14 z).2.1; omega⟩) (fun _ j _ => (hval j).symm) ?_
  rw [← hgv]
  have hx : rx_XX K ar N cl s (i + 1) ho tB la ro un we (upd lo e (nI (H (k + 1)))) (rx_fl (rx_fl nu 1296 (L (H (k + 1))) gv) (216 * e) (L (H (k + 1))) (fun m => rx_fl nu 1296 (L (H (k + 1))) gv (1296 + m))) := by
    refine ⟨L, H, U, R, Wt, lm, rx_up LV e (H (k + 1)), rx_up CE e k, ?_⟩
    unfold rx_XI
    rw [s2, eh, eTT, eAA, rx_fln c10, show rq_o K i - 1 = k by omega]
    refine ⟨rx_XG_dn G (by omega), fun l hl2 => a1 l (by omega), fun l hl2 => a2 l (by omega), fun l hl2 => a3 l (by omega), fun l hl2 p p1 p2 p3 p4 p5 => ?_, fun x hx => ?_⟩
    · refine a4 l (by omega) p (by omega) p2 p3 (fun q q1 q2 => ?_) p5
      by_cases cq : q = i
      · rw [cq, hko]; omega
      · exact p4 q (by omega) q2
    · by_cases c : x = e
      · rw [c, pk_us, rx_up_s, rx_up_s]
        refine ⟨rfl, c1, Nat.le_refl k, fun b hb1 => ⟨fun z => ?_, fun z => ?_⟩, c3, fun ρ hρ => ?_⟩
        · have := hm b k (by omega) (by omega); omega
        · omega
        · have x1 := rx_XG_lt G (l := H (k + 1)) (by omega) (rq_Al_mono hρ c1)
          rw [rx_fl_in x1, rx_fl_in x1, hgv, rq_VE kE, if_pos (by omega)]
          dsimp only
          rw [hko, G.2.2.2.2.1 k (by omega) ρ hρ, Nat.add_sub_cancel, List.map_map]
          by_cases c13 : K i ≤ 13
          · unfold rq_gth
            by_cases c12 : K i = 12
            · rw [if_pos c12, if_pos c12, List.length_map, List.length_map]
            · have cc : K i = 13 := by omega
              rw [if_neg c12, if_neg c12, if_pos cc, if_pos cc, List.length_map, List.length_map]
          · have tt := T14 (by omega)
            obtain ⟨d1, d2, d3, d4⟩ := B14 (by omega)
            refine congrArg _ (List.map_congr_left (fun r hr => ?_))
            unfold rq_rows at hr
            rw [List.mem_filter] at hr
            obtain ⟨r1, r2⟩ := hr
            have r1 := List.mem_range.mp r1
            have hal : rq_Al N (rq_T K ar i) (rq_A K ar N cl i) (rq_o K i) (rq_set ρ k r) := fun b hb1 => by
              by_cases cb : b = k
              · rw [cb, rq_set_s]; exact ⟨r1, r2⟩
              · rw [rq_set_o cb, rq_loc_set (lA b hb1) (by omega) ρ]; exact hρ b (by omega)
            show val (lm (k + 1) (rq_set ρ k r)) = _
            rw [hval, ← hko, rx_la_lm G (tgt := LV e) 3 (rq_o K i) _ h3 (Nat.le_refl _) d2 d3 hal, d4 _ hal, show rq_h K i - 1 = e by omega]
      · obtain ⟨y1, y2, y3, y4, y5, y6⟩ := a5 x (by omega)
        have yk := (y4 k (by omega)).mp (by omega)
        rw [pk_un c, rx_up_n c, rx_up_n c]
        refine ⟨y1, y2, yk, fun b hb1 => y4 b (by omega), y5, fun ρ hρ => ?_⟩
        have x1 := rx_XG_lt G (l := LV x) (by omega) (rq_Al_mono hρ y2)
        have x2 := (S1 (LV x) (by omega)).2
        rw [rx_fl_out (by omega), rx_fl_out (by omega), rq_VE kE, if_neg (by omega)]
        exact y6 ρ hρ
  have P := hp _ _ _ _ _ _ _ _ hx
  rw [s2, eh] at P
  exact P
end
end
section
/-! the component: the whole run -/
section
variable {K : Nat → Nat} {N : Nat → Nat} {cl : Nat → Nat → Nat → Int32} {s : Nat} {ar ho tB la ro un we lo nu : Nat → Int32} {sz hh oo lv dp kn fd : Int32} {rc ce kd bn ti : Nat → Int32}
theorem rx_carry {post : SX → Prop} {i : Nat} (hs : s ≤ 48) (hk : ∀ q, q < s → kd q = nI (K q)) (hW : rq_WF K ar s) (hN : ∀ t, t < 3 → rc t = nI (N t) ∧ N t ≤ 6) (hce : ∀ t r c, t < 3 → r < N t → c < 3 → ce (18 * t + 3 * r + c) = cl t r c) (hi : i < s) (hX : rx_XX K ar N cl s i ho tB la ro un we lo nu)
    (hp : ∀ ho' tB' la' ro' un' we' lo' nu' : Nat → Int32, rx_XX K ar N cl s (i + 1) ho' tB' la' ro' un' we' lo' nu' → post (nI s, hh, oo, nI (rq_o K (i + 1)), nI (rq_h K (i + 1)), kn, fd, rc, ce, kd, ar, bn, ho', tB', la', ro', un', we', lo', nu', ti)) : wpX_carry post (nI s, hh, oo, nI (rq_o K i), nI (rq_h K i), kn, fd, rc, ce, kd, ar, bn, ho, tB, la, ro, un, we, lo, nu, ti) (nI i) := by
  by_cases k0 : K i = 0
  · exact rx_c0 hs hk hW hi k0 hX hp
  · by_cases k1 : K i = 1
    · exact rx_c1 hs hk hW hN hce hi k1 hX hp
    · by_cases k9 : K i ≤ 9
      · exact rx_c2 hs hk hW hi (by omega) k9 hX hp
      · by_cases k10 : K i = 10
        · exact rx_c10 hs hk hW hN hi k10 hX hp
        · by_cases k11 : K i = 11
          · exact rx_c11 hs hk hW hi k11 hX hp
          · exact rx_cE hs hk hW hi (by omega) hX hp
theorem rx_w39 {post : SX → Prop} (hs : s ≤ 48) (hk : ∀ q, q < s → kd q = nI (K q)) (hW : rq_WF K ar s) (hN : ∀ t, t < 3 → rc t = nI (N t) ∧ N t ≤ 6) (hce : ∀ t r c, t < 3 → r < N t → c < 3 → ce (18 * t + 3 * r + c) = cl t r c) (ho0 : rq_o K s = 0) (hh1 : rq_h K s = 1)
    (hp : ∀ ho' tB' la' ro' un' we' lo' nu' ti' : Nat → Int32, (∀ p, p < s → ti' p = nI (rq_TM K ar N cl p)) → post (nI s, hh, oo, nI (rq_o K s), nI (rq_h K s), kn, rq_V K ar N cl s 0 (fun _ => 0), rc, ce, kd, ar, bn, ho', tB', la', ro', un', we', lo', nu', ti')) : ∀ m i, i + m = s → ∀ n, m < n → ∀ ho tB la ro un we lo nu ti : Nat → Int32, rx_XX K ar N cl s i ho tB la ro un we lo nu → (∀ p, p < i → ti p = nI (rq_TM K ar N cl p)) → wX_work_39 post n (nI i) (nI s) hh oo (nI (rq_o K i)) (nI (rq_h K i)) kn fd rc ce kd ar bn ho tB la ro un we lo nu ti := by
  intro m
  induction m with
  | zero =>
    intro i hi n hn ho tB la ro un we lo nu ti hX ht
    obtain ⟨n, rfl⟩ : ∃ n', n = n' + 1 := ⟨n - 1, by omega⟩
    have ei : i = s := by omega
    subst ei
    have e0 : nu 0 = rq_V K ar N cl i 0 (fun _ => 0) := by
      obtain ⟨L, H, U, R, Wt, lm, LV, CE, G, a1, a2, a3, a4, a5⟩ := hX
      obtain ⟨b1, b2, b3, b4, b5, b6⟩ := a5 0 (by omega)
      have b0 : CE 0 = 0 := by omega
      have l0 : LV 0 = 0 := by omega
      have := b6 (fun _ => 0) (by rw [b0]; exact fun b hb => absurd hb (Nat.not_lt_zero b))
      rw [l0, G.1.2] at this
      exact this
    exact br_t (Int32.le_refl _) (nm_r e0 (hp ho tB la ro un we lo nu ti ht))
  | succ m ih =>
    intro i hi n hn ho tB la ro un we lo nu ti hX ht
    obtain ⟨n, rfl⟩ : ∃ n', n = n' + 1 := ⟨n - 1, by omega⟩
    obtain ⟨-, h3, -, -, -⟩ := rq_st (a := ar) i (fun q hq => hW q (by omega))
    have lA := (rq_lc (a := ar) (N := N) (cl := cl) i (fun q hq => hW q (by omega))).2
    have hX' := hX
    obtain ⟨L, H, U, R, Wt, lm, LV, CE, I⟩ := hX'
    obtain ⟨S1, S2⟩ := rx_SS I h3
    obtain ⟨G, a1, a2, a3, a4, a5⟩ := I
    obtain ⟨l1, l2⟩ := S1 (rq_o K i) (Nat.le_refl _)
    refine br_f (nI_ge (by omega) (by omega)) (rx_load (L := L (rq_o K i)) (Wt := Wt (rq_o K i)) (by omega) l1 l2 (fun j hj => a3 _ (Nat.le_refl _) j hj) ⟨vp_in_nI (by omega) (by decide), nm_r (e' := upd ti i (nI (rq_TM K ar N cl i))) ?_ ?_⟩)
    · rw [nI_clamp (by omega), rx_load_SM G lA (Nat.le_refl _)]; rfl
    · refine rx_carry hs hk hW hN hce (by omega) hX (fun ho' tB' la' ro' un' we' lo' nu' hX' => nm_r (nI_1 i) (ih (i + 1) (by omega) n (by omega) _ _ _ _ _ _ _ _ _ hX' (fun p hp1 => ?_)))
      by_cases c : p = i
      · rw [c, pk_us]
      · rw [pk_un c]; exact ht p (by omega)
theorem rx_work0 {post : SX → Prop} (hs : s ≤ 48) (hk : ∀ q, q < s → kd q = nI (K q)) (hW : rq_WF K ar s) (hN : ∀ t, t < 3 → rc t = nI (N t) ∧ N t ≤ 6) (hce : ∀ t r c, t < 3 → r < N t → c < 3 → ce (18 * t + 3 * r + c) = cl t r c) (ho0 : rq_o K s = 0) (hh1 : rq_h K s = 1)
    (hp : ∀ (lv' dp' : Int32) (ho' tB' la' ro' un' we' lo' nu' ti' : Nat → Int32), (∀ p, p < s → ti' p = nI (rq_TM K ar N cl p)) → post (nI s, hh, oo, lv', dp', 1, rq_V K ar N cl s 0 (fun _ => 0), rc, ce, kd, ar, bn, ho', tB', la', ro', un', we', lo', nu', ti')) : wpX_work post (nI s, hh, oo, lv, dp, 0, fd, rc, ce, kd, ar, bn, ho, tB, la, ro, un, we, lo, nu, ti) := by
  unfold wpX_work
  refine br_t rfl (nm_e (nm_e ⟨s + 1, ?_⟩))
  refine rx_w39 (K := K) (N := N) (cl := cl) (kn := 1) hs hk hW hN hce ho0 hh1 (fun ho' tB' la' ro' un' we' lo' nu' ti' h => hp _ _ ho' tB' la' ro' un' we' lo' nu' ti' h) s 0 (by omega) (s + 1) (by omega) ho tB _ ro un _ lo nu ti ⟨fun _ => 1, fun _ => 0, fun _ _ => 0, fun _ _ => 0, fun _ _ => 1, fun _ _ => 0, fun _ => 0, fun _ => 0, ?_⟩ (fun p hp => absurd hp (Nat.not_lt_zero p))
  refine ⟨⟨⟨rfl, fun _ => rfl⟩, fun _ _ _ _ _ => rfl, fun l hl => absurd hl (Nat.not_lt_zero l), fun l hl => absurd hl (Nat.not_lt_zero l), fun l hl => absurd hl (Nat.not_lt_zero l), fun l hl j hj => ?_⟩, fun l hl => ?_, fun l hl => absurd hl (Nat.not_lt_zero l), fun l hl j hj => ?_, fun l hl => absurd hl (Nat.not_lt_zero l), fun e he => absurd he (Nat.not_lt_zero e)⟩
  · have e1 : l = 0 := Nat.le_zero.mp hl
    have e2 : j = 0 := Nat.lt_one_iff.mp hj
    rw [e1, e2]; rfl
  · have e1 : l = 0 := Nat.le_zero.mp hl
    rw [e1, pk_us]; exact ⟨rfl, by decide⟩
  · have e1 : l = 0 := Nat.le_zero.mp hl
    have e2 : j = 0 := Nat.lt_one_iff.mp hj
    rw [e1, e2]; exact pk_us
end
end
section
/-! the relation, tables -/
def rr_cl (ce : Nat → Int32) : Nat → Nat → Nat → Int32 := fun t r c => ce (18 * t + 3 * r + c)
def rr_F (s : Nat) (K N : Nat → Nat) (kn fd : Int32) (rc ce kd ar bn ti : Nat → Int32) : Prop :=
  s ≤ 48 ∧ (∀ q, q < s → kd q = nI (K q)) ∧ rq_WF K ar s ∧ (∀ t, t < 3 → rc t = nI (N t) ∧ N t ≤ 6) ∧ (∀ b, b < rq_o K s → bn b = nI (rq_fl K s b)) ∧
  (kn = 0 ∨ (kn = 1 ∧ rq_o K s = 0 ∧ rq_h K s = 1 ∧ fd = rq_V K ar N (rr_cl ce) s 0 (fun _ => 0) ∧ ∀ p, p < s → ti p = nI (rq_TM K ar N (rr_cl ce) p)))
def i_Rel (k : Nat) (u : SX) (v : SY) : Prop := match u with
  | (sz, hh, oo, lv, dp, kn, fd, rc, ce, kd, ar, bn, ho, tB, la, ro, un, we, lo, nu, ti) => match v with
    | (zy, yh, yo, tp, sT, sR, yd, cy, ey, dy, ry, fr, st, yt, be, rA, fo, va, se) =>
      ∃ (s : Nat) (K N : Nat → Nat), sz = nI s ∧ hh = nI (rq_h K s) ∧ oo = nI (rq_o K s) ∧ zy = nI s ∧ cy = rc ∧ ey = ce ∧ dy = kd ∧ ry = ar ∧ rr_F s K N kn fd rc ce kd ar bn ti
theorem i_up {k : Nat} {u : SX} {v : SY} (h : i_Rel k u v) : i_Rel (k + 5) u v := h
theorem i_vc0 : wpX_init (fun u => wpY_init (fun v => i_Rel 0 u v)) := by
  refine ⟨0, fun _ => 0, fun _ => 0, rfl, rfl, rfl, rfl, rfl, rfl, rfl, rfl, by decide, fun q h => absurd h (Nat.not_lt_zero q), fun q h => absurd h (Nat.not_lt_zero q), fun t _ => ⟨rfl, Nat.zero_le 6⟩, fun b h => absurd h (Nat.not_lt_zero b), Or.inl rfl⟩
theorem rr_ix (x : Int32) {n : Nat} (hn : n < 2 ^ 31) : (x < 0 ∨ nI n ≤ x) ∨ ∃ j : Nat, j < n ∧ x = nI j := by
  rcases pk_ix x hn with h | h | h
  · exact Or.inl (Or.inl h)
  · exact Or.inl (Or.inr h)
  · exact Or.inr h
theorem rr_3 {v : Int32} : (2 < v) ↔ nI 3 ≤ v := by
  rw [Int32.lt_iff_toInt_lt, Int32.le_iff_toInt_le, show (2 : Int32).toInt = 2 from by decide, show (nI 3).toInt = 3 from by decide]
  omega
theorem rx_isT0 {post : Int32 → Prop} {v : Int32} (h : v < 0 ∨ nI 3 ≤ v) (hp : post 0) : wpX_isTable post v := by
  unfold wpX_isTable
  exact br_c (fun _ => hp) (fun c => br_t (h.resolve_left c) hp)
theorem rx_isT1 {post : Int32 → Prop} {t : Nat} (h : t < 3) (hp : post 1) : wpX_isTable post (nI t) := by
  unfold wpX_isTable
  exact br_f (nI_pos (by omega)) (br_f (nI_ge (b := 3) h (by decide)) hp)
theorem rx_isC0 {post : Int32 → Prop} {v : Int32} (h : v < 0 ∨ nI 3 ≤ v) (hp : post 0) : wpX_isColumn post v := by
  unfold wpX_isColumn
  exact br_c (fun _ => hp) (fun c => br_t (h.resolve_left c) hp)
theorem rx_isC1 {post : Int32 → Prop} {t : Nat} (h : t < 3) (hp : post 1) : wpX_isColumn post (nI t) := by
  unfold wpX_isColumn
  exact br_f (nI_pos (by omega)) (br_f (nI_ge (b := 3) h (by decide)) hp)
section
variable {sz hh oo lv dp kn fd : Int32} {rc ce kd ar bn ho tB la ro un we lo nu ti : Nat → Int32}
theorem rx_isR0 {post : Int32 → Prop} {v w : Int32} (h : v < 0 ∨ nI 3 ≤ v) (hp : post 0) : wpX_isRow post (sz, hh, oo, lv, dp, kn, fd, rc, ce, kd, ar, bn, ho, tB, la, ro, un, we, lo, nu, ti) v w := by
  unfold wpX_isRow
  exact rx_isT0 h (br_t rfl hp)
theorem rx_isR1 {post : Int32 → Prop} {t n : Nat} {w : Int32} (ht : t < 3) (hn : rc t = nI n) (h : w < 0 ∨ nI n ≤ w) (hp : post 0) : wpX_isRow post (sz, hh, oo, lv, dp, kn, fd, rc, ce, kd, ar, bn, ho, tB, la, ro, un, we, lo, nu, ti) (nI t) w := by
  unfold wpX_isRow
  refine rx_isT1 ht (br_f (by decide) (br_c (fun _ => hp) (fun c => ⟨vp_in_nI ht (by decide), ?_⟩)))
  rw [nI_clamp (by omega), hn]
  exact br_t (h.resolve_left c) hp
theorem rx_isR2 {post : Int32 → Prop} {t n r : Nat} (ht : t < 3) (hn : rc t = nI n) (hn6 : n ≤ 6) (hr : r < n) (hp : post 1) : wpX_isRow post (sz, hh, oo, lv, dp, kn, fd, rc, ce, kd, ar, bn, ho, tB, la, ro, un, we, lo, nu, ti) (nI t) (nI r) := by
  unfold wpX_isRow
  refine rx_isT1 ht (br_f (by decide) (br_f (nI_pos (by omega)) ⟨vp_in_nI ht (by decide), ?_⟩))
  rw [nI_clamp (by omega), hn]
  exact br_f (nI_ge hr (by omega)) hp
theorem rx_remove {post : Int32 → SX → Prop} {t n r : Nat} (ht : t < 3) (hn : rc t = nI n) (hn6 : n ≤ 6) (hr : r < n) (hp : post (nI (n - 1)) (sz, hh, oo, lv, dp, 0, fd, upd rc t (nI (n - 1)), rx_fl ce (18 * t + 3 * r) (3 * (n - 1 - r)) (fun j => ce (18 * t + 3 * r + j + 3)), kd, ar, bn, ho, tB, la, ro, un, we, lo, nu, ti)) : wpX_remove post (sz, hh, oo, lv, dp, kn, fd, rc, ce, kd, ar, bn, ho, tB, la, ro, un, we, lo, nu, ti) (nI t) (nI r) := by
  obtain ⟨f, hf⟩ : ∃ f : Nat → Int32, f = fun j => ce (18 * t + 3 * r + j + 3) := ⟨_, rfl⟩
  rw [← hf] at hp
  have X : ∀ d j, j + d = 3 * (n - 1 - r) → ∀ g, d < g → wX_remove_51 post (nI t) (nI (18 * t + 3 * (n - 1))) sz hh oo lv dp kn fd g (nI (18 * t + 3 * r + j)) (upd rc t (nI (n - 1))) (rx_fl ce (18 * t + 3 * r) j f) kd ar bn ho tB la ro un we lo nu ti := by
    intro d
    induction d with
    | zero =>
      intro j hj g hg
      obtain ⟨g, rfl⟩ : ∃ n', g = n' + 1 := ⟨g - 1, by omega⟩
      have ej : j = 3 * (n - 1 - r) := by omega
      subst ej
      refine br_t (nI_le (by omega) (by omega)) ⟨vp_in_nI ht (by decide), ?_⟩
      rw [nI_clamp (by omega), pk_us]
      exact hp
    | succ d ih =>
      intro j hj g hg
      obtain ⟨g, rfl⟩ : ∃ n', g = n' + 1 := ⟨g - 1, by omega⟩
      refine br_f (nI_ge (by omega) (by omega)) ?_
      have e3 : nI (18 * t + 3 * r + j) + 3 = nI (18 * t + 3 * r + j + 3) := nI_add _ 3
      rw [e3, nI_clamp (n := 18 * t + 3 * r + j + 3) (by omega), nI_clamp (n := 18 * t + 3 * r + j) (by omega)]
      refine ⟨vp_in_nI (by omega) (by decide), vp_in_nI (by omega) (by decide), nm_r (e' := rx_fl ce (18 * t + 3 * r) (j + 1) f) (rx_fl_s ?_) (nm_r (nI_1 _) (ih (j + 1) (by omega) g (by omega)))⟩
      rw [rx_fl_out (by omega), hf]
  unfold wpX_remove
  refine rx_isT1 ht (br_f (by decide) (rx_isR2 ht hn hn6 hr (br_f (by decide) ⟨vp_in_nI ht (by decide), vp_in_nI ht (by decide), nm_r (e' := upd rc t (nI (n - 1))) ?_ ⟨vp_in_nI ht (by decide), ?_⟩⟩)))
  · rw [nI_clamp (by omega), hn]
    exact congrArg (upd rc t) (pk_sub (b := 1) (by omega))
  · rw [nI_clamp (by omega), pk_us]
    refine rx_cellAt (c := 0) (rx_cellAt (c := 0) ⟨3 * (n - 1 - r) + 1, ?_⟩)
    have := X (3 * (n - 1 - r)) 0 (by omega) (3 * (n - 1 - r) + 1) (by omega)
    rw [rx_fl_0] at this
    exact this
end
section
variable {sz yh yo tp sT sR yd : Int32} {rc ce kd ar fr st yt be rA fo va se : Nat → Int32}
theorem ry_isT0 {post : Int32 → Prop} {v : Int32} (h : v < 0 ∨ nI 3 ≤ v) (hp : post 0) : wpY_isTable post (sz, yh, yo, tp, sT, sR, yd, rc, ce, kd, ar, fr, st, yt, be, rA, fo, va, se) v := by
  unfold wpY_isTable
  exact br_c (fun _ => hp) (fun c => br_t (rr_3.mpr (h.resolve_left c)) hp)
theorem ry_isT1 {post : Int32 → Prop} {t : Nat} (h : t < 3) (hp : post 1) : wpY_isTable post (sz, yh, yo, tp, sT, sR, yd, rc, ce, kd, ar, fr, st, yt, be, rA, fo, va, se) (nI t) := by
  unfold wpY_isTable
  exact br_f (nI_pos (by omega)) (br_f (nI_nlt (a := 2) (by omega) (by decide)) hp)
theorem ry_isR0 {post : Int32 → Prop} {v w : Int32} (h : v < 0 ∨ nI 3 ≤ v) (hp : post 0) : wpY_isRow post (sz, yh, yo, tp, sT, sR, yd, rc, ce, kd, ar, fr, st, yt, be, rA, fo, va, se) v w := by
  unfold wpY_isRow
  exact ry_isT0 h (br_t rfl hp)
theorem ry_isR1 {post : Int32 → Prop} {t n : Nat} {w : Int32} (ht : t < 3) (hn : rc t = nI n) (h : w < 0 ∨ nI n ≤ w) (hp : post 0) : wpY_isRow post (sz, yh, yo, tp, sT, sR, yd, rc, ce, kd, ar, fr, st, yt, be, rA, fo, va, se) (nI t) w := by
  unfold wpY_isRow
  refine ry_isT1 ht (br_f (by decide) (br_c (fun _ => hp) (fun c => ⟨vp_in_nI ht (by decide), ?_⟩)))
  rw [nI_clamp (by omega), hn]
  exact br_t (h.resolve_left c) hp
theorem ry_isR2 {post : Int32 → Prop} {t n r : Nat} (ht : t < 3) (hn : rc t = nI n) (hn6 : n ≤ 6) (hr : r < n) (hp : post 1) : wpY_isRow post (sz, yh, yo, tp, sT, sR, yd, rc, ce, kd, ar, fr, st, yt, be, rA, fo, va, se) (nI t) (nI r) := by
  unfold wpY_isRow
  refine ry_isT1 ht (br_f (by decide) (br_f (nI_pos (by omega)) ⟨vp_in_nI ht (by decide), ?_⟩))
  rw [nI_clamp (by omega), hn]
  exact br_f (nI_ge hr (by omega)) hp
theorem ry_remove {post : Int32 → SY → Prop} {t n r : Nat} (ht : t < 3) (hn : rc t = nI n) (hn6 : n ≤ 6) (hr : r < n) (hp : post (nI (n - 1)) (sz, yh, yo, tp, sT, sR, yd, upd rc t (nI (n - 1)), rx_fl ce (18 * t + 3 * r) (3 * (n - 1 - r)) (fun j => ce (18 * t + 3 * r + j + 3)), kd, ar, fr, st, yt, be, rA, fo, va, se)) : wpY_remove post (sz, yh, yo, tp, sT, sR, yd, rc, ce, kd, ar, fr, st, yt, be, rA, fo, va, se) (nI t) (nI r) := by
  obtain ⟨f, hf⟩ : ∃ f : Nat → Int32, f = fun j => ce (18 * t + 3 * r + j + 3) := ⟨_, rfl⟩
  rw [← hf] at hp
  have e18 : ∀ q, 18 * nI t + 3 * nI q = nI (18 * t + 3 * q) := fun q => by rw [show (18 : Int32) = nI 18 from rfl, show (3 : Int32) = nI 3 from rfl, pk_mul, pk_mul, nI_add]
  have X : ∀ d j, j + d = 3 * (n - 1 - r) → ∀ g, d < g → wY_remove_41 post (nI t) sz yh yo tp sT sR yd g (nI (18 * t + 3 * r + j)) (upd rc t (nI (n - 1))) (rx_fl ce (18 * t + 3 * r) j f) kd ar fr st yt be rA fo va se := by
    intro d
    induction d with
    | zero =>
      intro j hj g hg
      obtain ⟨g, rfl⟩ : ∃ n', g = n' + 1 := ⟨g - 1, by omega⟩
      have ej : j = 3 * (n - 1 - r) := by omega
      subst ej
      refine ⟨vp_in_nI ht (by decide), ?_⟩
      rw [nI_clamp (n := t) (by omega), pk_us, e18]
      exact br_t (nI_le (by omega) (by omega)) ⟨vp_in_nI ht (by decide), hp⟩
    | succ d ih =>
      intro j hj g hg
      obtain ⟨g, rfl⟩ : ∃ n', g = n' + 1 := ⟨g - 1, by omega⟩
      refine ⟨vp_in_nI ht (by decide), ?_⟩
      rw [nI_clamp (n := t) (by omega), pk_us, e18]
      refine br_f (nI_ge (by omega) (by omega)) ?_
      have e3 : nI (18 * t + 3 * r + j) + 3 = nI (18 * t + 3 * r + j + 3) := nI_add _ 3
      rw [e3, nI_clamp (n := 18 * t + 3 * r + j + 3) (by omega), nI_clamp (n := 18 * t + 3 * r + j) (by omega)]
      refine ⟨vp_in_nI (by omega) (by decide), vp_in_nI (by omega) (by decide), nm_r (e' := rx_fl ce (18 * t + 3 * r) (j + 1) f) (rx_fl_s ?_) (nm_r (nI_1 _) (ih (j + 1) (by omega) g (by omega)))⟩
      rw [rx_fl_out (by omega), hf]
  unfold wpY_remove
  refine ry_isT1 ht (br_f (by decide) (ry_isR2 ht hn hn6 hr (br_f (by decide) ⟨vp_in_nI ht (by decide), vp_in_nI ht (by decide), nm_r (e' := upd rc t (nI (n - 1))) ?_ (nm_r (e18 r) ⟨3 * (n - 1 - r) + 1, ?_⟩)⟩)))
  · rw [nI_clamp (by omega), hn]
    exact congrArg (upd rc t) (pk_sub (b := 1) (by omega))
  · have := X (3 * (n - 1 - r)) 0 (by omega) (3 * (n - 1 - r) + 1) (by omega)
    rw [rx_fl_0] at this
    exact this
end
theorem i_vc_rows {k : Nat} {u : SX} {v : SY} (I : i_Rel k u v) (hk : k + 5 ≤ 2560) (v1 : Int32) : wpX_rows (fun r => wpY_rows (fun r' => r' = r ∧ i_Rel (k + 5) u v) v v1) u v1 := by
  obtain ⟨sz, hh, oo, lv, dp, kn, fd, rc, ce, kd, ar, bn, ho, tB, la, ro, un, we, lo, nu, ti⟩ := u
  obtain ⟨zy, yh, yo, tp, sT, sR, yd, cy, ey, dy, ry, fr, st, yt, be, rA, fo, va, se⟩ := v
  obtain ⟨s, K, N, rfl, rfl, rfl, rfl, rfl, rfl, rfl, rfl, F⟩ := I
  have J : i_Rel (k + 5) (nI s, nI (rq_h K s), nI (rq_o K s), lv, dp, kn, fd, cy, ey, dy, ry, bn, ho, tB, la, ro, un, we, lo, nu, ti) (nI s, yh, yo, tp, sT, sR, yd, cy, ey, dy, ry, fr, st, yt, be, rA, fo, va, se) := ⟨s, K, N, rfl, rfl, rfl, rfl, rfl, rfl, rfl, rfl, F⟩
  unfold wpX_rows wpY_rows
  rcases rr_ix v1 (n := 3) (by decide) with h | ⟨t, ht, rfl⟩
  · exact rx_isT0 h (br_t rfl (ry_isT0 h (br_t rfl ⟨rfl, J⟩)))
  · exact rx_isT1 ht (br_f (by decide) ⟨vp_in_nI ht (by decide), ry_isT1 ht (br_f (by decide) ⟨vp_in_nI ht (by decide), rfl, J⟩)⟩)
theorem i_vc_cell {k : Nat} {u : SX} {v : SY} (I : i_Rel k u v) (hk : k + 5 ≤ 2560) (v1 : Int32) (v2 : Int32) (v3 : Int32) : wpX_cell (fun r => wpY_cell (fun r' => r' = r ∧ i_Rel (k + 5) u v) v v1 v2 v3) u v1 v2 v3 := by
  obtain ⟨sz, hh, oo, lv, dp, kn, fd, rc, ce, kd, ar, bn, ho, tB, la, ro, un, we, lo, nu, ti⟩ := u
  obtain ⟨zy, yh, yo, tp, sT, sR, yd, cy, ey, dy, ry, fr, st, yt, be, rA, fo, va, se⟩ := v
  obtain ⟨s, K, N, rfl, rfl, rfl, rfl, rfl, rfl, rfl, rfl, F⟩ := I
  have J : i_Rel (k + 5) (nI s, nI (rq_h K s), nI (rq_o K s), lv, dp, kn, fd, cy, ey, dy, ry, bn, ho, tB, la, ro, un, we, lo, nu, ti) (nI s, yh, yo, tp, sT, sR, yd, cy, ey, dy, ry, fr, st, yt, be, rA, fo, va, se) := ⟨s, K, N, rfl, rfl, rfl, rfl, rfl, rfl, rfl, rfl, F⟩
  unfold wpX_cell wpY_cell
  rcases rr_ix v1 (n := 3) (by decide) with h | ⟨t, ht, rfl⟩
  · exact rx_isR0 h (br_t rfl (ry_isR0 h (br_t rfl ⟨rfl, J⟩)))
  · obtain ⟨n1, n2⟩ := F.2.2.2.1 t ht
    rcases rr_ix v2 (n := N t) (by omega) with h | ⟨r, hr, rfl⟩
    · exact rx_isR1 ht n1 h (br_t rfl (ry_isR1 ht n1 h (br_t rfl ⟨rfl, J⟩)))
    · rcases pk_ix v3 (n := 3) (by decide) with h | h | ⟨c, hc, rfl⟩
      · exact rx_isR2 ht n1 n2 hr (br_f (by decide) (rx_isC0 (Or.inl h) (br_t rfl (ry_isR2 ht n1 n2 hr (br_f (by decide) (br_t h ⟨rfl, J⟩))))))
      · exact rx_isR2 ht n1 n2 hr (br_f (by decide) (rx_isC0 (Or.inr h) (br_t rfl (ry_isR2 ht n1 n2 hr (br_f (by decide) (br_c (fun _ => ⟨rfl, J⟩) (fun _ => br_t (rr_3.mpr h) ⟨rfl, J⟩)))))))
      · refine rx_isR2 ht n1 n2 hr (br_f (by decide) (rx_isC1 hc (br_f (by decide) (rx_cellAt ⟨vp_in_nI (by omega) (by decide), ry_isR2 ht n1 n2 hr (br_f (by decide) (br_f (nI_pos (by omega)) (br_f (nI_nlt (a := 2) (by omega) (by decide)) ?_)))⟩))))
        rw [show (18 : Int32) = nI 18 from rfl, show (3 : Int32) = nI 3 from rfl, pk_mul, pk_mul, nI_add, nI_add]
        exact ⟨vp_in_nI (by omega) (by decide), rfl, J⟩
end
section
/-! tables and program: add, remove, clear, whole, drop, token -/
theorem rr_F_tab {s : Nat} {K N N' : Nat → Nat} {kn fd fd' : Int32} {rc rc' ce ce' kd ar bn ti ti' : Nat → Int32} (F : rr_F s K N kn fd rc ce kd ar bn ti) (h : ∀ t, t < 3 → rc' t = nI (N' t) ∧ N' t ≤ 6) : rr_F s K N' 0 fd' rc' ce' kd ar bn ti' := ⟨F.1, F.2.1, F.2.2.1, h, F.2.2.2.2.1, Or.inl rfl⟩
theorem rr_Nup {N : Nat → Nat} {rc : Nat → Int32} {t n : Nat} (h : ∀ t, t < 3 → rc t = nI (N t) ∧ N t ≤ 6) (hn : n ≤ 6) : ∀ t', t' < 3 → upd rc t (nI n) t' = nI (rx_up N t n t') ∧ rx_up N t n t' ≤ 6 := fun t' ht' => by
  by_cases c : t' = t
  · rw [c, pk_us, rx_up_s]; exact ⟨rfl, hn⟩
  · rw [pk_un c, rx_up_n c]; exact h t' ht'
theorem i_vc_add {k : Nat} {u : SX} {v : SY} (I : i_Rel k u v) (hk : k + 5 ≤ 2560) (v1 : Int32) (v2 : Int32) (v3 : Int32) (v4 : Int32) : wpX_add (fun r u' => wpY_add (fun r' v' => r' = r ∧ i_Rel (k + 5) u' v') v v1 v2 v3 v4) u v1 v2 v3 v4 := by
  obtain ⟨sz, hh, oo, lv, dp, kn, fd, rc, ce, kd, ar, bn, ho, tB, la, ro, un, we, lo, nu, ti⟩ := u
  obtain ⟨zy, yh, yo, tp, sT, sR, yd, cy, ey, dy, ry, fr, st, yt, be, rA, fo, va, se⟩ := v
  obtain ⟨s, K, N, rfl, rfl, rfl, rfl, rfl, rfl, rfl, rfl, F⟩ := I
  have J : i_Rel (k + 5) (nI s, nI (rq_h K s), nI (rq_o K s), lv, dp, kn, fd, cy, ey, dy, ry, bn, ho, tB, la, ro, un, we, lo, nu, ti) (nI s, yh, yo, tp, sT, sR, yd, cy, ey, dy, ry, fr, st, yt, be, rA, fo, va, se) := ⟨s, K, N, rfl, rfl, rfl, rfl, rfl, rfl, rfl, rfl, F⟩
  unfold wpX_add wpY_add
  rcases rr_ix v1 (n := 3) (by decide) with h | ⟨t, ht, rfl⟩
  · exact rx_isT0 h (br_t rfl (ry_isT0 h (br_t rfl ⟨rfl, J⟩)))
  · obtain ⟨n1, n2⟩ := F.2.2.2.1 t ht
    have hv : vp_in (nI t) 3 := vp_in_nI ht (by decide)
    have hc : (nI t).toNatClampNeg = t := nI_clamp (by omega)
    refine rx_isT1 ht (br_f (by decide) ⟨hv, ?_⟩)
    rw [hc, n1]
    by_cases c : N t < 6
    · have x1 : vp_in (nI (18 * t + 3 * N t)) 54 := vp_in_nI (by omega) (by decide)
      have x2 : vp_in (nI (18 * t + 3 * N t + 1)) 54 := vp_in_nI (by omega) (by decide)
      have x3 : vp_in (nI (18 * t + 3 * N t + 2)) 54 := vp_in_nI (by omega) (by decide)
      have e0 : (nI (18 * t + 3 * N t)).toNatClampNeg = 18 * t + 3 * N t := nI_clamp (by omega)
      have e1 : nI (18 * t + 3 * N t) + 1 = nI (18 * t + 3 * N t + 1) := nI_1 _
      have e2 : nI (18 * t + 3 * N t) + 2 = nI (18 * t + 3 * N t + 2) := nI_add _ 2
      have e3 : (nI (18 * t + 3 * N t + 1)).toNatClampNeg = 18 * t + 3 * N t + 1 := nI_clamp (by omega)
      have e4 : (nI (18 * t + 3 * N t + 2)).toNatClampNeg = 18 * t + 3 * N t + 2 := nI_clamp (by omega)
      have e18 : 18 * nI t + 3 * nI (N t) = nI (18 * t + 3 * N t) := by rw [show (18 : Int32) = nI 18 from rfl, show (3 : Int32) = nI 3 from rfl, pk_mul, pk_mul, nI_add]
      refine br_t (nI_lt (b := 6) c (by decide)) ⟨hv, rx_cellAt (c := 0) ?_⟩
      rw [Nat.add_zero, e1, e2, e0, e3, e4]
      refine ⟨x1, nm_e ⟨x2, nm_e ⟨x3, nm_e ⟨hv, hv, nm_r (e' := upd cy t (nI (N t + 1))) (by rw [nI_1]) ⟨hv, ?_⟩⟩⟩⟩⟩
      rw [pk_us]
      refine ry_isT1 ht (br_f (by decide) ⟨hv, ?_⟩)
      first | rw [hc, n1] | rw [n1] | rw [hc]
      refine br_f (rq_ne (c := 6) (by omega) (by omega) (by decide)) ⟨hv, nm_r e18 ?_⟩
      rw [e1, e2, e0, e3, e4]
      refine ⟨x1, nm_e ⟨x2, nm_e ⟨x3, nm_e ⟨hv, hv, nm_r (e' := upd cy t (nI (N t + 1))) (by rw [nI_1]) ⟨hv, ?_⟩⟩⟩⟩⟩
      rw [pk_us]
      exact ⟨rfl, s, K, rx_up N t (N t + 1), rfl, rfl, rfl, rfl, rfl, rfl, rfl, rfl, rr_F_tab F (rr_Nup F.2.2.2.1 (by omega))⟩
    · have e6 : N t = 6 := by omega
      refine br_f (nI_nlt (b := 6) (by omega) (by omega)) (ry_isT1 ht (br_f (by decide) ⟨hv, ?_⟩))
      first | rw [hc, n1] | rw [n1] | rw [hc]
      exact br_t (by rw [e6]; rfl) ⟨rfl, J⟩
theorem i_vc_remove {k : Nat} {u : SX} {v : SY} (I : i_Rel k u v) (hk : k + 5 ≤ 2560) (v1 : Int32) (v2 : Int32) : wpX_remove (fun r u' => wpY_remove (fun r' v' => r' = r ∧ i_Rel (k + 5) u' v') v v1 v2) u v1 v2 := by
  obtain ⟨sz, hh, oo, lv, dp, kn, fd, rc, ce, kd, ar, bn, ho, tB, la, ro, un, we, lo, nu, ti⟩ := u
  obtain ⟨zy, yh, yo, tp, sT, sR, yd, cy, ey, dy, ry, fr, st, yt, be, rA, fo, va, se⟩ := v
  obtain ⟨s, K, N, rfl, rfl, rfl, rfl, rfl, rfl, rfl, rfl, F⟩ := I
  have J : i_Rel (k + 5) (nI s, nI (rq_h K s), nI (rq_o K s), lv, dp, kn, fd, cy, ey, dy, ry, bn, ho, tB, la, ro, un, we, lo, nu, ti) (nI s, yh, yo, tp, sT, sR, yd, cy, ey, dy, ry, fr, st, yt, be, rA, fo, va, se) := ⟨s, K, N, rfl, rfl, rfl, rfl, rfl, rfl, rfl, rfl, F⟩
  rcases rr_ix v1 (n := 3) (by decide) with h | ⟨t, ht, rfl⟩
  · unfold wpX_remove wpY_remove
    exact rx_isT0 h (br_t rfl (ry_isT0 h (br_t rfl ⟨rfl, J⟩)))
  · obtain ⟨n1, n2⟩ := F.2.2.2.1 t ht
    rcases rr_ix v2 (n := N t) (by omega) with h | ⟨r, hr, rfl⟩
    · unfold wpX_remove wpY_remove
      exact rx_isT1 ht (br_f (by decide) (rx_isR1 ht n1 h (br_t rfl (ry_isT1 ht (br_f (by decide) (ry_isR1 ht n1 h (br_t rfl ⟨rfl, J⟩)))))))
    · exact rx_remove ht n1 n2 hr (ry_remove ht n1 n2 hr ⟨rfl, s, K, rx_up N t (N t - 1), rfl, rfl, rfl, rfl, rfl, rfl, rfl, rfl, rr_F_tab F (rr_Nup F.2.2.2.1 (by omega))⟩)
theorem i_vc_clear {k : Nat} {u : SX} {v : SY} (I : i_Rel k u v) (hk : k + 5 ≤ 2560) : wpX_clear (fun r u' => wpY_clear (fun r' v' => r' = r ∧ i_Rel (k + 5) u' v') v) u := by
  obtain ⟨sz, hh, oo, lv, dp, kn, fd, rc, ce, kd, ar, bn, ho, tB, la, ro, un, we, lo, nu, ti⟩ := u
  obtain ⟨zy, yh, yo, tp, sT, sR, yd, cy, ey, dy, ry, fr, st, yt, be, rA, fo, va, se⟩ := v
  obtain ⟨s, K, N, rfl, rfl, rfl, rfl, rfl, rfl, rfl, rfl, F⟩ := I
  unfold wpX_clear wpY_clear
  exact ⟨rfl, 0, K, N, rfl, rfl, rfl, rfl, rfl, rfl, rfl, rfl, Nat.zero_le 48, fun q h => absurd h (Nat.not_lt_zero q), fun q h => absurd h (Nat.not_lt_zero q), F.2.2.2.1, fun b h => absurd h (Nat.not_lt_zero b), Or.inl rfl⟩
section
variable {sz hh oo lv dp kn fd : Int32} {rc ce kd ar bn ho tB la ro un we lo nu ti : Nat → Int32}
theorem rx_isWhole {post : Int32 → Prop} {h o : Nat} (hh6 : h ≤ 6) (oo3 : o ≤ 3) (hp : post (if o = 0 ∧ h = 1 then 1 else 0)) : wpX_isWhole post (sz, nI h, nI o, lv, dp, kn, fd, rc, ce, kd, ar, bn, ho, tB, la, ro, un, we, lo, nu, ti) := by
  unfold wpX_isWhole
  refine pk_eq o 0 (fun c => ?_) (fun c => ?_)
  · refine pk_eq h 1 (fun c2 => ?_) (fun c2 => ?_)
    · rw [if_pos ⟨c, c2⟩] at hp; exact hp
    · rw [if_neg (fun z => c2 z.2)] at hp; exact hp
  · rw [if_neg (fun z => c z.1)] at hp; exact hp
theorem rx_follow {post : SX → Prop} {K : Nat → Nat} {a : Nat → Int32} {i : Nat} (hS : rq_ST K i) (hO : rq_Ok K a i) (hb : ∀ b, b < rq_o K i → bn b = nI (rq_fl K i b)) (hp : ∀ bn' : Nat → Int32, (∀ b, b < rq_o K (i + 1) → bn' b = nI (rq_fl K (i + 1) b)) → post (sz, nI (rq_h K (i + 1)), nI (rq_o K (i + 1)), lv, dp, kn, fd, rc, ce, kd, ar, bn', ho, tB, la, ro, un, we, lo, nu, ti)) : wpX_follow post (sz, nI (rq_h K i), nI (rq_o K i), lv, dp, kn, fd, rc, ce, kd, ar, bn, ho, tB, la, ro, un, we, lo, nu, ti) (nI (K i)) := by
  obtain ⟨h6, h3, hfl, hm, -⟩ := hS
  obtain ⟨k17, -, -, hl, hE, -, hR⟩ := hO
  unfold wpX_follow
  by_cases c10 : K i = 10
  · obtain ⟨e1, e2, e3, -⟩ := rq_s10 c10
    have := hR c10
    rw [e1, e2] at hp
    refine br_t (by rw [c10]; rfl) ⟨vp_in_nI this (by decide), nm_r (e' := upd bn (rq_o K i) (nI (rq_h K i))) (by rw [nI_clamp (by omega)]) (nm_r (nI_1 _) (hp _ (fun b hb1 => ?_)))⟩
    rw [e3]
    by_cases cb : b = rq_o K i
    · rw [if_pos cb, cb, pk_us]
    · rw [if_neg cb, pk_un cb]; exact hb b (by omega)
  · obtain ⟨e3, -⟩ := rq_sn c10
    refine br_f (rq_ne (c := 10) c10 (by omega) (by decide)) (rx_taken k17 (nm_r (pk_sub (by omega)) ?_))
    by_cases c11 : K i = 11
    · obtain ⟨e1, e2⟩ := rq_s11 c11
      have t1 : rq_tk (K i) = 1 := by rw [c11]; decide
      rw [e1, e2] at hp
      rw [t1]
      exact br_t (by rw [c11]; rfl) (hp bn (fun b hb1 => by rw [e3]; exact hb b hb1))
    · refine br_f (rq_ne (c := 11) c11 (by omega) (by decide)) (rx_ends (by omega) (fun c12 => ?_) (fun c12 => ?_))
      · obtain ⟨e1, e2⟩ := rq_sE c12
        have ho := (hE (by omega)).1
        rw [e1, e2] at hp
        exact br_f (by decide) (nm_r (pk_sub (b := 1) (by omega)) (nm_r (nI_1 _) (hp bn (fun b hb1 => by rw [e3]; exact hb b (by omega)))))
      · obtain ⟨e1, e2⟩ := rq_sS (show K i ≤ 9 by omega)
        rw [e1, e2] at hp
        exact br_t rfl (nm_r (nI_1 _) (hp bn (fun b hb1 => by rw [e3]; exact hb b (by omega))))
theorem rx_drop {post : Int32 → SX → Prop} {K : Nat → Nat} {s : Nat} (hs : s ≤ 48) (hk : ∀ q, q < s → kd q = nI (K q)) (hW : rq_WF K ar s) (hp : ∀ bn' : Nat → Int32, (∀ b, b < rq_o K s → bn' b = nI (rq_fl K s b)) → post (nI s) (nI s, nI (rq_h K s), nI (rq_o K s), lv, dp, 0, fd, rc, ce, kd, ar, bn', ho, tB, la, ro, un, we, lo, nu, ti)) : ∀ m i, i + m = s → ∀ n, m < n → ∀ bn : Nat → Int32, (∀ b, b < rq_o K i → bn b = nI (rq_fl K i b)) → wX_drop_31 post n (nI i) (nI s) (nI (rq_h K i)) (nI (rq_o K i)) lv dp kn fd rc ce kd ar bn ho tB la ro un we lo nu ti := by
  intro m
  induction m with
  | zero =>
    intro i hi n hn bn hb
    obtain ⟨n, rfl⟩ : ∃ n', n = n' + 1 := ⟨n - 1, by omega⟩
    have e : i = s := by omega
    subst e
    exact br_t (Int32.le_refl _) (hp bn hb)
  | succ m ih =>
    intro i hi n hn bn hb
    obtain ⟨n, rfl⟩ : ∃ n', n = n' + 1 := ⟨n - 1, by omega⟩
    refine br_f (nI_ge (by omega) (by omega)) ⟨vp_in_nI (by omega) (by decide), ?_⟩
    rw [nI_clamp (n := i) (by omega), hk i (by omega)]
    exact rx_follow (a := ar) (rq_st i (fun q hq => hW q (by omega))) (hW i (by omega)) hb (fun bn' hb' => nm_r (nI_1 i) (ih (i + 1) (by omega) n (by omega) bn' hb'))
end
theorem i_vc_whole {k : Nat} {u : SX} {v : SY} (I : i_Rel k u v) (hk : k + 5 ≤ 2560) : wpX_whole (fun r => wpY_whole (fun r' v' => r' = r ∧ i_Rel (k + 5) u v') v) u := by
  obtain ⟨sz, hh, oo, lv, dp, kn, fd, rc, ce, kd, ar, bn, ho, tB, la, ro, un, we, lo, nu, ti⟩ := u
  obtain ⟨zy, yh, yo, tp, sT, sR, yd, cy, ey, dy, ry, fr, st, yt, be, rA, fo, va, se⟩ := v
  obtain ⟨s, K, N, rfl, rfl, rfl, rfl, rfl, rfl, rfl, rfl, F⟩ := I
  obtain ⟨h6, h3, -, -, -⟩ := rq_st (a := ry) s F.2.2.1
  unfold wpX_whole
  refine rx_isWhole h6 h3 ?_
  by_cases c : rq_o K s = 0 ∧ rq_h K s = 1
  · rw [if_pos c]
    refine br_f (by decide) (ry_whole F.1 F.2.1 F.2.2.1 (fun fr' => ?_))
    rw [if_pos c]
    exact ⟨rfl, s, K, N, rfl, rfl, rfl, rfl, rfl, rfl, rfl, rfl, F⟩
  · rw [if_neg c]
    refine br_t rfl (ry_whole F.1 F.2.1 F.2.2.1 (fun fr' => ?_))
    rw [if_neg c]
    exact ⟨rfl, s, K, N, rfl, rfl, rfl, rfl, rfl, rfl, rfl, rfl, F⟩
theorem i_vc_drop {k : Nat} {u : SX} {v : SY} (I : i_Rel k u v) (hk : k + 5 ≤ 2560) : wpX_drop (fun r u' => wpY_drop (fun r' v' => r' = r ∧ i_Rel (k + 5) u' v') v) u := by
  obtain ⟨sz, hh, oo, lv, dp, kn, fd, rc, ce, kd, ar, bn, ho, tB, la, ro, un, we, lo, nu, ti⟩ := u
  obtain ⟨zy, yh, yo, tp, sT, sR, yd, cy, ey, dy, ry, fr, st, yt, be, rA, fo, va, se⟩ := v
  obtain ⟨s, K, N, rfl, rfl, rfl, rfl, rfl, rfl, rfl, rfl, F⟩ := I
  have hs := F.1
  unfold wpX_drop wpY_drop
  by_cases c : s = 0
  · exact br_t (by rw [c]; rfl) (br_t (by rw [c]; rfl) ⟨rfl, s, K, N, rfl, rfl, rfl, rfl, rfl, rfl, rfl, rfl, F⟩)
  · obtain ⟨s', rfl⟩ : ∃ s', s = s' + 1 := ⟨s - 1, by omega⟩
    have ne : ¬ nI (s' + 1) = 0 := rq_ne (c := 0) c (by omega) (by decide)
    have hk' : ∀ q, q < s' → dy q = nI (K q) := fun q hq => F.2.1 q (by omega)
    have hW' : rq_WF K ry s' := fun q hq => F.2.2.1 q (by omega)
    refine br_f ne (nm_r (nI_pred s') ⟨s' + 1, rx_drop (K := K) (s := s') (by omega) hk' hW' (fun bn' hb' => br_f ne (nm_r (nI_pred s') ⟨rfl, s', K, N, rfl, rfl, rfl, rfl, rfl, rfl, rfl, rfl, by omega, hk', hW', F.2.2.2.1, hb', Or.inl rfl⟩)) s' 0 (by omega) (s' + 1) (by omega) bn (fun b hb => absurd hb (Nat.not_lt_zero b))⟩)
end
section
/-! token -/
def rr_fit (k : Nat) (a : Int32) : Prop := (k = 0 → ¬ a < -99 ∧ ¬ 99 < a) ∧ (k = 1 → ¬ a < 0 ∧ ¬ 8 < a) ∧ (k = 10 → ¬ a < 0 ∧ ¬ nI 3 ≤ a)
def rr_std (K : Nat → Nat) (s k : Nat) : Prop := rq_lo K s + rq_tk k ≤ rq_h K s ∧ (11 ≤ k → 0 < rq_o K s ∧ rq_h K s = rq_lo K s + rq_tk k)
def rr_over (K : Nat → Nat) (s k : Nat) : Prop := ((k < 2 ∨ k = 12 ∨ k = 13) ∧ rq_h K s = 6) ∨ (k = 10 ∧ rq_o K s = 3)
theorem rr_tk0 {k : Nat} (h : k ≤ 17) : rq_tk k = 0 ↔ (k < 2 ∨ k = 10 ∨ k = 12 ∨ k = 13) := by
  unfold rq_tk
  by_cases c1 : k < 2
  · rw [if_pos c1]; omega
  · rw [if_neg c1]
    by_cases c2 : k ≤ 8
    · rw [if_pos c2]; omega
    · rw [if_neg c2]
      by_cases c3 : k = 9 ∨ k = 11 ∨ 13 < k
      · rw [if_pos c3]; omega
      · rw [if_neg c3]; omega
theorem rr_tk2 (k : Nat) : rq_tk k ≤ 2 := by unfold rq_tk; repeat' (first | omega | split)
theorem rx_fits {post : Int32 → Prop} {k : Nat} {a : Int32} (hk : k ≤ 17) (h1 : rr_fit k a → post 1) (h0 : ¬ rr_fit k a → post 0) : wpX_fits post (nI k) a := by
  unfold wpX_fits
  by_cases c0 : k = 0
  · refine br_t (by rw [c0]; rfl) (br_c (fun c => h0 (fun z => (z.1 c0).1 c)) (fun c => br_c (fun c2 => h0 (fun z => (z.1 c0).2 c2)) (fun c2 => h1 ⟨fun _ => ⟨c, c2⟩, fun z => ?_, fun z => ?_⟩)))
    · omega
    · omega
  · refine br_f (rq_ne (c := 0) c0 (by omega) (by decide)) ?_
    by_cases c1 : k = 1
    · refine br_t (by rw [c1]; rfl) (br_c (fun c => h0 (fun z => (z.2.1 c1).1 c)) (fun c => br_c (fun c2 => h0 (fun z => (z.2.1 c1).2 c2)) (fun c2 => h1 ⟨fun z => ?_, fun _ => ⟨c, c2⟩, fun z => ?_⟩)))
      · omega
      · omega
    · refine br_f (rq_ne (c := 1) c1 (by omega) (by decide)) ?_
      by_cases c10 : k = 10
      · refine br_t (by rw [c10]; rfl) (br_c (fun c => h0 (fun z => (z.2.2 c10).1 c)) (fun c => br_c (fun c2 => h0 (fun z => (z.2.2 c10).2 c2)) (fun c2 => h1 ⟨fun z => ?_, fun z => ?_, fun _ => ⟨c, c2⟩⟩)))
        · omega
        · omega
      · exact br_f (rq_ne (c := 10) c10 (by omega) (by decide)) (h1 ⟨fun z => absurd z c0, fun z => absurd z c1, fun z => absurd z c10⟩)
section
variable {sz yh yo tp sT sR yd : Int32} {rc ce kd ar fr st yt be rA fo va se : Nat → Int32}
theorem ry_isTok {post : Int32 → Prop} {k : Nat} {a : Int32} (hk : k ≤ 17) (h1 : rr_fit k a → post 1) (h0 : ¬ rr_fit k a → post 0) : wpY_isToken post (sz, yh, yo, tp, sT, sR, yd, rc, ce, kd, ar, fr, st, yt, be, rA, fo, va, se) (nI k) a := by
  unfold wpY_isToken
  by_cases c0 : k = 0
  · refine br_t (by rw [c0]; rfl) (br_c (fun c => h0 (fun z => (z.1 c0).1 c)) (fun c => br_c (fun c2 => h0 (fun z => (z.1 c0).2 c2)) (fun c2 => h1 ⟨fun _ => ⟨c, c2⟩, fun z => ?_, fun z => ?_⟩)))
    · omega
    · omega
  · refine br_f (rq_ne (c := 0) c0 (by omega) (by decide)) ?_
    by_cases c1 : k = 1
    · refine br_t (by rw [c1]; rfl) (br_c (fun c => h0 (fun z => (z.2.1 c1).1 c)) (fun c => br_c (fun c2 => h0 (fun z => (z.2.1 c1).2 c2)) (fun c2 => h1 ⟨fun z => ?_, fun _ => ⟨c, c2⟩, fun z => ?_⟩)))
      · omega
      · omega
    · refine br_f (rq_ne (c := 1) c1 (by omega) (by decide)) ?_
      by_cases c10 : k = 10
      · refine br_t (by rw [c10]; rfl) ?_
        rcases rr_ix a (n := 3) (by decide) with h | ⟨t, ht, rfl⟩
        · refine ry_isT0 h ⟨narrow_b0, h0 (fun z => ?_)⟩
          obtain ⟨z1, z2⟩ := z.2.2 c10
          exact h.elim z1 z2
        · exact ry_isT1 ht ⟨narrow_b1, h1 ⟨fun z => absurd z c0, fun z => absurd z c1, fun _ => ⟨nI_pos (by omega), nI_ge (b := 3) ht (by decide)⟩⟩⟩
      · exact br_f (rq_ne (c := 10) c10 (by omega) (by decide)) (br_f (nI_nle (by omega) (by omega)) (br_f (nI_nlt (a := 17) hk (by decide)) (h1 ⟨fun z => absurd z c0, fun z => absurd z c1, fun z => absurd z c10⟩)))
theorem ry_t95 {post : Int32 → SY → Prop} {K : Nat → Nat} {s k : Nat} {a z0 : Int32} (hk : k ≤ 17) (h6 : rq_h K s ≤ 6) (h3 : rq_o K s ≤ 3) (hlo : rq_lo K s ≤ rq_h K s) (hz : z0 = if 11 ≤ k then 1 else 0)
    (hn : ¬ rr_std K s k → post (-4) (sz, nI (rq_h K s), nI (rq_o K s), tp, sT, sR, yd, rc, ce, kd, ar, fr, st, yt, be, rA, fo, va, se)) (ho : rr_std K s k → rr_over K s k → post (-5) (sz, nI (rq_h K s), nI (rq_o K s), tp, sT, sR, yd, rc, ce, kd, ar, fr, st, yt, be, rA, fo, va, se)) (hy : rr_std K s k → ¬ rr_over K s k → wY_token_185 post (nI k) a sz (nI (rq_h K s)) (nI (rq_o K s)) tp sT sR yd rc ce kd ar fr st yt be rA fo va se) :
    (k = 10 → z0 = 0) → wY_token_95 post (nI k) a (nI (rq_h K s - rq_lo K s)) z0 sz (nI (rq_h K s)) (nI (rq_o K s)) tp sT sR yd rc ce kd ar fr st yt be rA fo va se := by
  intro _
  have tk2 := rr_tk2 k
  have t130 : rr_std K s k → wY_token_130 post (nI k) a sz (nI (rq_h K s)) (nI (rq_o K s)) tp sT sR yd rc ce kd ar fr st yt be rA fo va se := fun hs => by
    have t168 : (¬ ((k < 2 ∨ k = 12 ∨ k = 13) ∧ rq_h K s = 6)) → wY_token_168 post (nI k) a sz (nI (rq_h K s)) (nI (rq_o K s)) tp sT sR yd rc ce kd ar fr st yt be rA fo va se := fun hno => by
      unfold wY_token_168
      by_cases c10 : k = 10
      · refine br_t (by rw [c10]; rfl) (pk_eq (rq_o K s) 3 (fun c => ho hs (Or.inr ⟨c10, c⟩)) (fun c => hy hs (fun z => ?_)))
        rcases z with z | z
        · exact hno z
        · exact c z.2
      · refine br_f (rq_ne (c := 10) c10 (by omega) (by decide)) (hy hs (fun z => ?_))
        rcases z with z | z
        · exact hno z
        · exact c10 z.1
    have t152 : (k < 2 ∨ k = 12 ∨ k = 13) → wY_token_147 post (nI k) a sz (nI (rq_h K s)) (nI (rq_o K s)) tp sT sR yd rc ce kd ar fr st yt be rA fo va se := fun hk2 => by
      unfold wY_token_147 wY_token_152
      exact br_f (by decide) (pk_eq (rq_h K s) 6 (fun c => ho hs (Or.inl ⟨hk2, c⟩)) (fun c => t168 (fun z => c z.2)))
    unfold wY_token_130
    refine pk_lt k 2 (fun c => t152 (Or.inl c)) (fun c => ?_)
    refine pk_eq k 12 (fun c2 => t152 (Or.inr (Or.inl c2))) (fun c2 => ?_)
    refine pk_eq k 13 (fun c3 => t152 (Or.inr (Or.inr c3))) (fun c3 => ?_)
    unfold wY_token_152
    exact br_t rfl (t168 (fun z => by omega))
  unfold wY_token_95
  refine ry_takes hk (pk_lt (rq_h K s - rq_lo K s) (rq_tk k) (fun c => hn (fun z => by have := z.1; omega)) (fun c => ?_))
  by_cases c11 : 11 ≤ k
  · rw [if_pos c11] at hz
    refine br_f (by rw [hz]; decide) (pk_eq (rq_o K s) 0 (fun c0 => hn (fun z => by have := (z.2 c11).1; omega)) (fun c0 => ry_takes hk ?_))
    exact pk_eq (rq_h K s - rq_lo K s) (rq_tk k) (fun c2 => t130 ⟨by omega, fun _ => ⟨by omega, by omega⟩⟩) (fun c2 => hn (fun z => by have := (z.2 c11).2; omega))
  · rw [if_neg c11] at hz
    exact br_t hz (t130 ⟨by omega, fun z => absurd z c11⟩)
theorem ry_t45 {post : Int32 → SY → Prop} {K : Nat → Nat} {s k : Nat} {a : Int32} (hk : k ≤ 17) (h6 : rq_h K s ≤ 6) (h3 : rq_o K s ≤ 3) (hlo : rq_lo K s ≤ rq_h K s) (hfr : ∀ b, b < rq_o K s → fr b = nI (rq_fl K s b))
    (hn : ¬ rr_std K s k → post (-4) (sz, nI (rq_h K s), nI (rq_o K s), tp, sT, sR, yd, rc, ce, kd, ar, fr, st, yt, be, rA, fo, va, se)) (ho : rr_std K s k → rr_over K s k → post (-5) (sz, nI (rq_h K s), nI (rq_o K s), tp, sT, sR, yd, rc, ce, kd, ar, fr, st, yt, be, rA, fo, va, se)) (hy : rr_std K s k → ¬ rr_over K s k → wY_token_185 post (nI k) a sz (nI (rq_h K s)) (nI (rq_o K s)) tp sT sR yd rc ce kd ar fr st yt be rA fo va se) :
    wY_token_45 post (nI k) a sz (nI (rq_h K s)) (nI (rq_o K s)) tp sT sR yd rc ce kd ar fr st yt be rA fo va se := by
  have t75 : wY_token_75 post (nI k) a (nI (rq_h K s - rq_lo K s)) sz (nI (rq_h K s)) (nI (rq_o K s)) tp sT sR yd rc ce kd ar fr st yt be rA fo va se := by
    unfold wY_token_75
    by_cases c11 : k = 11
    · refine br_t (by rw [c11]; rfl) ?_
      unfold wY_token_90
      exact ry_t95 hk h6 h3 hlo (by rw [if_pos (by omega)]) hn ho hy (fun z => by omega)
    · refine br_f (rq_ne (c := 11) c11 (by omega) (by decide)) (ry_isEnd (by omega) (fun c => br_f (by decide) ?_) (fun c => br_t rfl ?_))
      · unfold wY_token_90
        exact ry_t95 hk h6 h3 hlo (by rw [if_pos (by omega)]) hn ho hy (fun z => by omega)
      · exact ry_t95 hk h6 h3 hlo (by rw [if_neg (by omega)]) hn ho hy (fun _ => rfl)
  unfold wY_token_45
  refine pk_eq (rq_o K s) 0 (fun c => ?_) (fun c => ?_)
  · have e : rq_lo K s = 0 := by unfold rq_lo; rw [if_pos c]
    rw [e, Nat.sub_zero] at t75
    exact t75
  · have e : rq_lo K s = rq_fl K s (rq_o K s - 1) := by unfold rq_lo; rw [if_neg c]
    have e1 : nI (rq_o K s) - 1 = nI (rq_o K s - 1) := pk_sub (b := 1) (by omega)
    rw [e1, nI_clamp (n := rq_o K s - 1) (by omega), hfr _ (by omega), ← e, pk_sub hlo]
    exact ⟨vp_in_nI (by omega) (by decide), t75⟩
end
section
variable {sz hh oo lv dp kn fd : Int32} {rc ce kd ar bn ho tB la ro un we lo nu ti : Nat → Int32}
theorem rx_t50 {post : Int32 → SX → Prop} {K : Nat → Nat} {s k : Nat} {a : Int32} (hk : k ≤ 17) (h6 : rq_h K s ≤ 6) (h3 : rq_o K s ≤ 3) (hlo : rq_lo K s ≤ rq_h K s) (hb : ∀ b, b < rq_o K s → bn b = nI (rq_fl K s b))
    (hn : ¬ rr_std K s k → post (-4) (sz, nI (rq_h K s), nI (rq_o K s), lv, dp, kn, fd, rc, ce, kd, ar, bn, ho, tB, la, ro, un, we, lo, nu, ti)) (hov : rr_std K s k → rr_over K s k → post (-5) (sz, nI (rq_h K s), nI (rq_o K s), lv, dp, kn, fd, rc, ce, kd, ar, bn, ho, tB, la, ro, un, we, lo, nu, ti)) (hy : rr_std K s k → ¬ rr_over K s k → wX_token_120 post (nI k) a sz (nI (rq_h K s)) (nI (rq_o K s)) lv dp kn fd rc ce kd ar bn ho tB la ro un we lo nu ti) :
    wX_token_50 post (nI k) a sz (nI (rq_h K s)) (nI (rq_o K s)) lv dp kn fd rc ce kd ar bn ho tB la ro un we lo nu ti := by
  have tk2 := rr_tk2 k
  have tz := rr_tk0 hk
  have flo : ∀ Q : Int32 → Prop, Q (nI (rq_lo K s)) → wpX_floor Q (sz, nI (rq_h K s), nI (rq_o K s), lv, dp, kn, fd, rc, ce, kd, ar, bn, ho, tB, la, ro, un, we, lo, nu, ti) := fun Q hQ => by
    unfold wpX_floor
    unfold rq_lo at hQ
    refine pk_eq (rq_o K s) 0 (fun c => ?_) (fun c => ?_)
    · rw [if_pos c] at hQ; exact hQ
    · rw [if_neg c] at hQ
      have e1 : nI (rq_o K s) - 1 = nI (rq_o K s - 1) := pk_sub (b := 1) (by omega)
      rw [e1, nI_clamp (n := rq_o K s - 1) (by omega), hb _ (by omega)]
      exact ⟨vp_in_nI (by omega) (by decide), hQ⟩
  have std : ∀ Q : Int32 → Prop, (rr_std K s k → Q 1) → (¬ rr_std K s k → Q 0) → wpX_stands Q (sz, nI (rq_h K s), nI (rq_o K s), lv, dp, kn, fd, rc, ce, kd, ar, bn, ho, tB, la, ro, un, we, lo, nu, ti) (nI k) := fun Q q1 q0 => by
    unfold wpX_stands
    refine flo _ (nm_r (pk_sub hlo) (rx_taken hk (pk_lt k 11 (fun c => ?_) (fun c => ?_))))
    · exact pk_lt (rq_h K s - rq_lo K s) (rq_tk k) (fun c2 => q0 (fun z => by have := z.1; omega)) (fun c2 => q1 ⟨by omega, fun z => absurd z (by omega)⟩)
    · refine pk_le (rq_o K s) 0 (fun c2 => q0 (fun z => by have := (z.2 c).1; omega)) (fun c2 => ?_)
      exact pk_eq (rq_h K s - rq_lo K s) (rq_tk k) (fun c3 => q1 ⟨by omega, fun _ => ⟨c2, by omega⟩⟩) (fun c3 => q0 (fun z => by have := (z.2 c).2; omega))
  have t103 : rr_std K s k → (¬ ((k < 2 ∨ k = 12 ∨ k = 13) ∧ rq_h K s = 6)) → wX_token_103 post (nI k) a sz (nI (rq_h K s)) (nI (rq_o K s)) lv dp kn fd rc ce kd ar bn ho tB la ro un we lo nu ti := fun hs hno => by
    unfold wX_token_103
    by_cases c10 : k = 10
    · refine br_t (by rw [c10]; rfl) (pk_lt (rq_o K s) 3 (fun c => hy hs (fun z => ?_)) (fun c => hov hs (Or.inr ⟨c10, by omega⟩)))
      rcases z with z | z
      · exact hno z
      · omega
    · refine br_f (rq_ne (c := 10) c10 (by omega) (by decide)) (hy hs (fun z => ?_))
      rcases z with z | z
      · exact hno z
      · exact c10 z.1
  unfold wX_token_50
  refine std _ (fun hs => br_f (by decide) ?_) (fun hs => br_t rfl (hn hs))
  unfold wX_token_77 wX_token_78
  have t0 : k = 10 ∨ k = 11 → wpX_taken (fun r_31 => (((0 : Int32) = 0 → wX_token_103 post (nI k) a sz (nI (rq_h K s)) (nI (rq_o K s)) lv dp kn fd rc ce kd ar bn ho tB la ro un we lo nu ti) ∧ (¬ (0 : Int32) = 0 → ((r_31 = 0 → ((6 ≤ nI (rq_h K s) → post (-5) (sz, nI (rq_h K s), nI (rq_o K s), lv, dp, kn, fd, rc, ce, kd, ar, bn, ho, tB, la, ro, un, we, lo, nu, ti)) ∧ (¬ 6 ≤ nI (rq_h K s) → wX_token_103 post (nI k) a sz (nI (rq_h K s)) (nI (rq_o K s)) lv dp kn fd rc ce kd ar bn ho tB la ro un we lo nu ti))) ∧ (¬ r_31 = 0 → wX_token_103 post (nI k) a sz (nI (rq_h K s)) (nI (rq_o K s)) lv dp kn fd rc ce kd ar bn ho tB la ro un we lo nu ti))))) (nI k) := fun c => rx_taken hk (br_t rfl (t103 hs (by omega)))
  by_cases c10 : k = 10
  · exact br_t (by rw [c10]; rfl) (t0 (Or.inl c10))
  · refine br_f (rq_ne (c := 10) c10 (by omega) (by decide)) ?_
    by_cases c11 : k = 11
    · exact br_t (by rw [c11]; rfl) (t0 (Or.inr c11))
    · refine br_f (rq_ne (c := 11) c11 (by omega) (by decide)) (rx_taken hk (br_f (by decide) (pk_eq (rq_tk k) 0 (fun c => ?_) (fun c => t103 hs (fun z => by omega)))))
      have kk : k < 2 ∨ k = 12 ∨ k = 13 := by omega
      exact pk_le 6 (rq_h K s) (fun c2 => hov hs (Or.inl ⟨kk, by omega⟩)) (fun c2 => t103 hs (fun z => by omega))
end
theorem i_vc_token {k : Nat} {u : SX} {v : SY} (I : i_Rel k u v) (hk : k + 5 ≤ 2560) (v1 : Int32) (v2 : Int32) : wpX_token (fun r u' => wpY_token (fun r' v' => r' = r ∧ i_Rel (k + 5) u' v') v v1 v2) u v1 v2 := by
  obtain ⟨sz, hh, oo, lv, dp, kn, fd, rc, ce, kd, ar, bn, ho, tB, la, ro, un, we, lo, nu, ti⟩ := u
  obtain ⟨zy, yh, yo, tp, sT, sR, yd, cy, ey, dy, ry, fr, st, yt, be, rA, fo, va, se⟩ := v
  obtain ⟨s, K, N, rfl, rfl, rfl, rfl, rfl, rfl, rfl, rfl, F⟩ := I
  have J : ∀ (yh yo : Int32) (fr : Nat → Int32), i_Rel (k + 5) (nI s, nI (rq_h K s), nI (rq_o K s), lv, dp, kn, fd, cy, ey, dy, ry, bn, ho, tB, la, ro, un, we, lo, nu, ti) (nI s, yh, yo, tp, sT, sR, yd, cy, ey, dy, ry, fr, st, yt, be, rA, fo, va, se) := fun yh yo fr => ⟨s, K, N, rfl, rfl, rfl, rfl, rfl, rfl, rfl, rfl, F⟩
  obtain ⟨hs, hkd, hW, hN, hb, -⟩ := F
  obtain ⟨h6, h3, hfl, hm, -⟩ := rq_st (a := ry) s hW
  have hlo : rq_lo K s ≤ rq_h K s := by
    unfold rq_lo
    split
    · exact Nat.zero_le _
    · exact hfl _ (by omega)
  unfold wpX_token wpY_token
  have bad : ∀ Q : Int32 → Prop, v1 < 0 ∨ 17 < v1 → Q 0 → wpY_isToken Q (nI s, yh, yo, tp, sT, sR, yd, cy, ey, dy, ry, fr, st, yt, be, rA, fo, va, se) v1 v2 := fun Q h hQ => by
    have n0 : ¬ v1 = 0 := fun z => by
      rw [z] at h
      exact absurd h (by decide)
    have n1 : ¬ v1 = 1 := fun z => by
      rw [z] at h
      exact absurd h (by decide)
    have n10 : ¬ v1 = 10 := fun z => by
      rw [z] at h
      exact absurd h (by decide)
    unfold wpY_isToken
    refine br_f n0 (br_f n1 (br_f n10 (br_c (fun _ => hQ) (fun c => br_t (h.resolve_left (fun z => c ?_)) hQ))))
    exact Int32.le_of_lt z
  refine br_c (fun c => bad _ (Or.inl c) (br_t rfl ⟨rfl, J _ _ _⟩)) (fun c => br_c (fun c2 => bad _ (Or.inr c2) (br_t rfl ⟨rfl, J _ _ _⟩)) (fun c2 => ?_))
  obtain ⟨q, hq, rfl⟩ := nI_of2 (x := v1) (M := 17) (n := 17) (by decide) c (Int32.not_lt.mp c2)
  refine rx_fits hq (fun hf => br_f (by decide) ?_) (fun hf => br_t rfl (ry_isTok hq (fun z => absurd z hf) (fun _ => br_t rfl ⟨rfl, J _ _ _⟩)))
  refine pk_lt s 48 (fun hs48 => ?_) (fun hs48 => ry_isTok hq (fun _ => br_f (by decide) (br_t (by rw [show s = 48 by omega]; rfl) ⟨rfl, J _ _ _⟩)) (fun z => absurd hf z))
  have ytok : ∀ Q : SY → Prop, (∀ fr' : Nat → Int32, (∀ b, b < rq_o K s → fr' b = nI (rq_fl K s b)) → Q (nI s, nI (rq_h K s), nI (rq_o K s), tp, sT, sR, yd, cy, ey, dy, ry, fr', st, yt, be, rA, fo, va, se)) → wpY_check Q (nI s, yh, yo, tp, sT, sR, yd, cy, ey, dy, ry, fr, st, yt, be, rA, fo, va, se) := fun Q hQ => ry_check hs hkd hW hQ
  have ne48 : ¬ nI s = 48 := rq_ne (c := 48) (by omega) (by omega) (by decide)
  -- the token is appended, or refused
  have app : ∀ P : Int32 → SX → Prop, (q = 1 → ∃ j, j ≤ 8 ∧ v2 = nI j ∧ j / 3 < rq_o K s) → (∀ (r : Int32) (u' : SX), (∀ fr' : Nat → Int32, (∀ b, b < rq_o K s → fr' b = nI (rq_fl K s b)) → wY_token_45 (fun r' v' => r' = r ∧ i_Rel (k + 5) u' v') (nI q) v2 (nI s) (nI (rq_h K s)) (nI (rq_o K s)) tp sT sR yd cy ey dy ry fr' st yt be rA fo va se) → P r u') → wX_token_50 P (nI q) v2 (nI s) (nI (rq_h K s)) (nI (rq_o K s)) lv dp kn fd cy ey dy ry bn ho tB la ro un we lo nu ti := fun P hq1 hP => by
    refine rx_t50 hq h6 h3 hlo hb (fun hn => hP _ _ (fun fr' hfr => ry_t45 hq h6 h3 hlo hfr (fun _ => ⟨rfl, J _ _ _⟩) (fun z => absurd z hn) (fun z => absurd z hn))) (fun hst hov => hP _ _ (fun fr' hfr => ry_t45 hq h6 h3 hlo hfr (fun z => absurd hst z) (fun _ _ => ⟨rfl, J _ _ _⟩) (fun _ z => absurd hov z))) (fun hst hov => ?_)
    have eK : rx_up K s q s = q := rx_up_s
    have cg : ∀ x, x ≤ s → rq_h (rx_up K s q) x = rq_h K x ∧ rq_o (rx_up K s q) x = rq_o K x ∧ rq_fl (rx_up K s q) x = rq_fl K x ∧ rq_bg (rx_up K s q) x = rq_bg K x := fun x hx => rq_cong x (fun y hy => rx_up_n (by omega))
    obtain ⟨g1, g2, g3, g4⟩ := cg s (Nat.le_refl s)
    have okN : rq_Ok (rx_up K s q) (upd ry s v2) s := by
      unfold rq_Ok
      have elo : rq_lo (rx_up K s q) s = rq_lo K s := by unfold rq_lo; rw [g2, g3]
      rw [eK, g1, g2, elo, pk_us]
      refine ⟨hq, hq1, fun z => ?_, hst.1, hst.2, fun z1 z2 z3 => ?_, fun z => ?_⟩
      · obtain ⟨f1, f2⟩ := hf.2.2 z
        rcases rr_ix v2 (n := 3) (by decide) with h | ⟨t, ht, e⟩
        · exact absurd h (fun h => h.elim f1 f2)
        · exact ⟨t, ht, e⟩
      · have := (rr_tk0 hq).mp z3
        refine Nat.lt_of_le_of_ne h6 (fun z => hov (Or.inl ⟨by omega, z⟩))
      · exact Nat.lt_of_le_of_ne h3 (fun z2 => hov (Or.inr ⟨z, z2⟩))
    have WN : rq_WF (rx_up K s q) (upd ry s v2) (s + 1) := fun x hx => by
      by_cases cx : x = s
      · rw [cx]; exact okN
      · exact rq_okc (fun y hy => (rx_up_n (by omega)).symm) (pk_un cx).symm (hW x (by omega))
    have KN : ∀ x, x < s + 1 → upd dy s (nI q) x = nI (rx_up K s q x) := fun x hx => by
      by_cases cx : x = s
      · rw [cx, pk_us, rx_up_s]
      · rw [pk_un cx, rx_up_n cx]; exact hkd x (by omega)
    have hv : vp_in (nI s) 48 := vp_in_nI hs48 (by decide)
    have hc : (nI s).toNatClampNeg = s := nI_clamp (by omega)
    unfold wX_token_120
    rw [hc]
    refine ⟨hv, nm_e ⟨hv, nm_e (nm_r (nI_1 s) ?_)⟩⟩
    have fo := rx_follow (sz := nI (s + 1)) (lv := lv) (dp := dp) (kn := kn) (fd := fd) (rc := cy) (ce := ey) (kd := upd dy s (nI q)) (ar := upd ry s v2) (bn := bn) (ho := ho) (tB := tB) (la := la) (ro := ro) (un := un) (we := we) (lo := lo) (nu := nu) (ti := ti) (K := rx_up K s q) (a := upd ry s v2) (i := s) (post := fun u => match u with | (b1, b2, b3, b4, b5, b6, b7, b8, b9, b10, b11, b12, b13, b14, b15, b16, b17, b18, b19, b20, b21) => P b1 (b1, b2, b3, b4, b5, 0, b7, b8, b9, b10, b11, b12, b13, b14, b15, b16, b17, b18, b19, b20, b21)) (rq_st s (fun x hx => WN x (by omega))) okN (by rw [g2, g3]; exact hb) (fun bn' hb' => hP _ _ (fun fr' hfr => ry_t45 hq h6 h3 hlo hfr (fun z => absurd hst z) (fun _ z => absurd z hov) (fun _ _ => by
      unfold wY_token_185
      rw [hc]
      refine ⟨hv, nm_e ⟨hv, nm_e (nm_r (nI_1 s) ⟨rfl, s + 1, rx_up K s q, N, rfl, rfl, rfl, rfl, rfl, rfl, rfl, rfl, hs48, KN, WN, hN, hb', Or.inl rfl⟩)⟩⟩)))
    rw [g1, g2, eK] at fo
    exact fo
  by_cases c1 : q = 1
  · obtain ⟨f1, f2⟩ := hf.2.1 c1
    obtain ⟨j, hj, rfl⟩ := nI_of2 (x := v2) (M := 8) (n := 8) (by decide) f1 (Int32.not_lt.mp f2)
    have e3 : nI j / 3 = nI (j / 3) := pk_div (d := 3) (by omega) (by decide) (by decide)
    refine br_t (by rw [c1]; rfl) ⟨by decide, ?_⟩
    rw [e3]
    refine pk_lt (j / 3) (rq_o K s) (fun c3 => ?_) (fun c3 => ry_isTok hq (fun _ => br_f (by decide) (br_f ne48 (ytok _ (fun fr' hfr => br_t (by rw [c1]; rfl) ⟨by decide, ?_⟩)))) (fun z => absurd hf z))
    · refine app _ (fun _ => ⟨j, hj, rfl, c3⟩) (fun r u' h => ry_isTok hq (fun _ => br_f (by decide) (br_f ne48 (ytok _ (fun fr' hfr => br_t (by rw [c1]; rfl) ⟨by decide, ?_⟩)))) (fun z => absurd hf z))
      exact br_t (nI_lt c3 (by omega)) (h fr' hfr)
    · exact br_f (nI_nlt c3 (by omega)) ⟨rfl, J _ _ _⟩
  · have n1 : ¬ nI q = 1 := rq_ne (c := 1) c1 (by omega) (by decide)
    exact br_f n1 (app _ (fun z => absurd z c1) (fun r u' h => ry_isTok hq (fun _ => br_f (by decide) (br_f ne48 (ytok _ (fun fr' hfr => br_f n1 (h fr' hfr))))) (fun z => absurd hf z)))
end
section
/-! result, reached, store, without -/
theorem rr_neg1 {t : Nat} (h : t < 3) : ¬ nI t = -1 := by
  have c : t = 0 ∨ t = 1 ∨ t = 2 := by omega
  rcases c with rfl | rfl | rfl <;> decide
theorem rr_H0 {s : Nat} {K N : Nat → Nat} {kn fd : Int32} {rc ce kd ar bn ti : Nat → Int32} (F : rr_F s K N kn fd rc ce kd ar bn ti) : ry_H K N N (rr_cl ce) (fun _ r => r) s (-1) (-1) rc ce kd ar := by
  have rf : ∀ t q, t < 3 → ry_RF (-1) (-1) t q = q := fun t q ht => if_neg (rr_neg1 ht)
  obtain ⟨hs, hk, hW, hN, -, -⟩ := F
  refine ⟨hs, hk, hW, fun t ht => ⟨(hN t ht).1, (hN t ht).2, (hN t ht).2⟩, fun t ht => rf t 0 ht, fun t r ht _ => rf t _ ht, fun t r _ hr => hr, fun t ht => ⟨Nat.le_refl _, ?_⟩, fun t r c _ _ _ => rfl⟩
  exact Nat.lt_of_le_of_lt (hN t ht).2 (by decide)
section
variable {sz hh oo lv dp kn fd : Int32} {rc ce kd ar bn ho tB la ro un we lo nu ti : Nat → Int32}
theorem rx_workR {post : SX → Prop} {s : Nat} {K N : Nat → Nat} (F : rr_F s K N kn fd rc ce kd ar bn ti) (ho0 : rq_o K s = 0) (hh1 : rq_h K s = 1)
    (hp : ∀ (lv' dp' : Int32) (ho' tB' la' ro' un' we' lo' nu' ti' : Nat → Int32), (∀ p, p < s → ti' p = nI (rq_TM K ar N (rr_cl ce) p)) → post (nI s, hh, oo, lv', dp', 1, rq_V K ar N (rr_cl ce) s 0 (fun _ => 0), rc, ce, kd, ar, bn, ho', tB', la', ro', un', we', lo', nu', ti')) : wpX_work post (nI s, hh, oo, lv, dp, kn, fd, rc, ce, kd, ar, bn, ho, tB, la, ro, un, we, lo, nu, ti) := by
  obtain ⟨hs, hk, hW, hN, -, hkn⟩ := F
  rcases hkn with rfl | ⟨rfl, -, -, rfl, hti⟩
  · exact rx_work0 hs hk hW hN (fun _ _ _ _ _ _ => rfl) ho0 hh1 hp
  · unfold wpX_work
    exact br_f (by decide) (hp lv dp ho tB la ro un we lo nu ti hti)
end
theorem i_vc_result {k : Nat} {u : SX} {v : SY} (I : i_Rel k u v) (hk : k + 5 ≤ 2560) : wpX_result (fun r u' => wpY_result (fun r' v' => r' = r ∧ i_Rel (k + 5) u' v') v) u := by
  obtain ⟨sz, hh, oo, lv, dp, kn, fd, rc, ce, kd, ar, bn, ho, tB, la, ro, un, we, lo, nu, ti⟩ := u
  obtain ⟨zy, yh, yo, tp, sT, sR, yd, cy, ey, dy, ry, fr, st, yt, be, rA, fo, va, se⟩ := v
  obtain ⟨s, K, N, rfl, rfl, rfl, rfl, rfl, rfl, rfl, rfl, F⟩ := I
  obtain ⟨h6, h3, -, -, -⟩ := rq_st (a := ry) s F.2.2.1
  unfold wpX_result
  refine rx_isWhole h6 h3 ?_
  by_cases c : rq_o K s = 0 ∧ rq_h K s = 1
  · rw [if_pos c]
    refine br_f (by decide) (rx_workR F c.1 c.2 (fun lv' dp' ho' tB' la' ro' un' we' lo' nu' ti' hti => ?_))
    unfold wpY_result
    refine ry_whole F.1 F.2.1 F.2.2.1 (fun fr' => ?_)
    rw [if_pos c]
    exact br_f (by decide) (ry_work (rr_H0 F) c.1 c.2 _ (fun st' yt' be' rA' fo' va' se' h1 h2 => ⟨h1, s, K, N, rfl, rfl, rfl, rfl, rfl, rfl, rfl, rfl, F.1, F.2.1, F.2.2.1, F.2.2.2.1, F.2.2.2.2.1, Or.inr ⟨rfl, c.1, c.2, rfl, hti⟩⟩))
  · rw [if_neg c]
    refine br_t rfl ?_
    unfold wpY_result
    refine ry_whole F.1 F.2.1 F.2.2.1 (fun fr' => ?_)
    rw [if_neg c]
    exact br_t rfl ⟨rfl, s, K, N, rfl, rfl, rfl, rfl, rfl, rfl, rfl, rfl, F⟩
theorem i_vc_reached {k : Nat} {u : SX} {v : SY} (I : i_Rel k u v) (hk : k + 5 ≤ 2560) (v1 : Int32) : wpX_reached (fun r u' => wpY_reached (fun r' v' => r' = r ∧ i_Rel (k + 5) u' v') v v1) u v1 := by
  obtain ⟨sz, hh, oo, lv, dp, kn, fd, rc, ce, kd, ar, bn, ho, tB, la, ro, un, we, lo, nu, ti⟩ := u
  obtain ⟨zy, yh, yo, tp, sT, sR, yd, cy, ey, dy, ry, fr, st, yt, be, rA, fo, va, se⟩ := v
  obtain ⟨s, K, N, rfl, rfl, rfl, rfl, rfl, rfl, rfl, rfl, F⟩ := I
  obtain ⟨h6, h3, -, -, -⟩ := rq_st (a := ry) s F.2.2.1
  have hs := F.1
  unfold wpX_reached
  refine rx_isWhole h6 h3 ?_
  by_cases c : rq_o K s = 0 ∧ rq_h K s = 1
  · rw [if_pos c]
    refine br_f (by decide) ?_
    rcases pk_ix v1 (n := s) (by omega) with h | h | ⟨i, hi, rfl⟩
    · refine br_t h ?_
      unfold wpY_reached
      refine ry_whole F.1 F.2.1 F.2.2.1 (fun fr' => ?_)
      rw [if_pos c]
      exact br_f (by decide) (br_t h ⟨rfl, s, K, N, rfl, rfl, rfl, rfl, rfl, rfl, rfl, rfl, F⟩)
    · have n0 : ¬ v1 < 0 := Int32.not_lt.mpr (Int32.le_trans (nI_pos' (by omega)) h)
      have n1 : ¬ v1 < nI s := Int32.not_lt.mpr h
      refine br_f n0 (br_f n1 ?_)
      unfold wpY_reached
      refine ry_whole F.1 F.2.1 F.2.2.1 (fun fr' => ?_)
      rw [if_pos c]
      exact br_f (by decide) (br_f n0 (br_f n1 ⟨rfl, s, K, N, rfl, rfl, rfl, rfl, rfl, rfl, rfl, rfl, F⟩))
    · have n0 : ¬ nI i < 0 := nI_pos (by omega)
      have n1 : nI i < nI s := nI_lt hi (by omega)
      have hv : vp_in (nI i) 48 := vp_in_nI (by omega) (by decide)
      refine br_f n0 (br_t n1 (rx_workR F c.1 c.2 (fun lv' dp' ho' tB' la' ro' un' we' lo' nu' ti' hti => ⟨hv, ?_⟩)))
      unfold wpY_reached
      refine ry_whole F.1 F.2.1 F.2.2.1 (fun fr' => ?_)
      rw [if_pos c]
      refine br_f (by decide) (br_f n0 (br_t n1 (ry_work (rr_H0 F) c.1 c.2 _ (fun st' yt' be' rA' fo' va' se' h1 h2 => ⟨hv, ?_, s, K, N, rfl, rfl, rfl, rfl, rfl, rfl, rfl, rfl, F.1, F.2.1, F.2.2.1, F.2.2.2.1, F.2.2.2.2.1, Or.inr ⟨rfl, c.1, c.2, rfl, hti⟩⟩))))
      rw [nI_clamp (by omega), h2 i hi, hti i hi]
  · rw [if_neg c]
    refine br_t rfl ?_
    unfold wpY_reached
    refine ry_whole F.1 F.2.1 F.2.2.1 (fun fr' => ?_)
    rw [if_neg c]
    exact br_t rfl ⟨rfl, s, K, N, rfl, rfl, rfl, rfl, rfl, rfl, rfl, rfl, F⟩
theorem i_vc_store {k : Nat} {u : SX} {v : SY} (I : i_Rel k u v) (hk : k + 5 ≤ 2560) (v1 : Int32) (v2 : Int32) (v3 : Int32) : wpX_store (fun r u' => wpY_store (fun r' v' => r' = r ∧ i_Rel (k + 5) u' v') v v1 v2 v3) u v1 v2 v3 := by
  obtain ⟨sz, hh, oo, lv, dp, kn, fd, rc, ce, kd, ar, bn, ho, tB, la, ro, un, we, lo, nu, ti⟩ := u
  obtain ⟨zy, yh, yo, tp, sT, sR, yd, cy, ey, dy, ry, fr, st, yt, be, rA, fo, va, se⟩ := v
  obtain ⟨s, K, N, rfl, rfl, rfl, rfl, rfl, rfl, rfl, rfl, F⟩ := I
  have J : i_Rel (k + 5) (nI s, nI (rq_h K s), nI (rq_o K s), lv, dp, kn, fd, cy, ey, dy, ry, bn, ho, tB, la, ro, un, we, lo, nu, ti) (nI s, yh, yo, tp, sT, sR, yd, cy, ey, dy, ry, fr, st, yt, be, rA, fo, va, se) := ⟨s, K, N, rfl, rfl, rfl, rfl, rfl, rfl, rfl, rfl, F⟩
  obtain ⟨h6, h3, -, -, -⟩ := rq_st (a := ry) s F.2.2.1
  unfold wpX_store wpY_store
  rcases rr_ix v1 (n := 3) (by decide) with h | ⟨t, ht, rfl⟩
  · exact rx_isT0 h (br_t rfl (ry_isT0 h (br_t rfl ⟨rfl, J⟩)))
  · refine rx_isT1 ht (br_f (by decide) ?_)
    rcases pk_ix v3 (n := 3) (by decide) with h | h | ⟨c3, hc3, rfl⟩
    · exact rx_isC0 (Or.inl h) (br_t rfl (ry_isT1 ht (br_f (by decide) (br_t h ⟨rfl, J⟩))))
    · refine rx_isC0 (Or.inr h) (br_t rfl (ry_isT1 ht (br_f (by decide) (br_c (fun _ => ⟨rfl, J⟩) (fun _ => br_f (fun z => ?_) ⟨rfl, J⟩)))))
      have := rr_3.mpr h
      exact absurd z (Int32.not_le.mpr this)
    · refine rx_isC1 hc3 (br_f (by decide) ?_)
      have c0 : ¬ nI c3 < 0 := nI_pos (by omega)
      have c2 : nI c3 ≤ 2 := nI_le (b := 2) (by omega) (by decide)
      obtain ⟨n1, n2⟩ := F.2.2.2.1 t ht
      rcases rr_ix v2 (n := N t) (by omega) with h | ⟨r, hr, rfl⟩
      · exact rx_isR1 ht n1 h (br_t rfl (ry_isT1 ht (br_f (by decide) (br_f c0 (br_t c2 (ry_isR1 ht n1 h (br_t rfl ⟨rfl, J⟩)))))))
      · refine rx_isR2 ht n1 n2 hr (br_f (by decide) (rx_isWhole h6 h3 ?_))
        have hv : vp_in (nI (18 * t + 3 * r + c3)) 54 := vp_in_nI (by omega) (by decide)
        have e18 : 18 * nI t + 3 * nI r + nI c3 = nI (18 * t + 3 * r + c3) := by rw [show (18 : Int32) = nI 18 from rfl, show (3 : Int32) = nI 3 from rfl, pk_mul, pk_mul, nI_add, nI_add]
        by_cases c : rq_o K s = 0 ∧ rq_h K s = 1
        · rw [if_pos c]
          refine br_f (by decide) (rx_workR F c.1 c.2 (fun lv' dp' ho' tB' la' ro' un' we' lo' nu' ti' hti => rx_cellAt ⟨hv, nm_e ?_⟩))
          refine ry_isT1 ht (br_f (by decide) (br_f c0 (br_t c2 (ry_isR2 ht n1 n2 hr (br_f (by decide) (ry_whole F.1 F.2.1 F.2.2.1 (fun fr' => ?_)))))))
          rw [if_pos c]
          refine br_f (by decide) ?_
          unfold wpY_result
          refine ry_whole F.1 F.2.1 F.2.2.1 (fun fr2 => ?_)
          rw [if_pos c]
          refine br_f (by decide) (ry_work (rr_H0 F) c.1 c.2 _ (fun st' yt' be' rA' fo' va' se' h1 h2 => ?_))
          show vp_in (18 * nI t + 3 * nI r + nI c3) 54 ∧ _
          rw [e18, h1]
          exact ⟨hv, nm_e ⟨rfl, s, K, N, rfl, rfl, rfl, rfl, rfl, rfl, rfl, rfl, rr_F_tab F F.2.2.2.1⟩⟩
        · rw [if_neg c]
          refine br_t rfl (ry_isT1 ht (br_f (by decide) (br_f c0 (br_t c2 (ry_isR2 ht n1 n2 hr (br_f (by decide) (ry_whole F.1 F.2.1 F.2.2.1 (fun fr' => ?_))))))))
          rw [if_neg c]
          exact br_t rfl ⟨rfl, s, K, N, rfl, rfl, rfl, rfl, rfl, rfl, rfl, rfl, F⟩
end
section
/-! without -/
/-- the row that the r'-th row left stands for -/
def rr_ph (t r : Nat) (t' r' : Nat) : Nat := if t' = t ∧ r ≤ r' then r' + 1 else r'
theorem rr_H1 {s : Nat} {K N : Nat → Nat} {kn fd : Int32} {rc ce kd ar bn ti : Nat → Int32} (F : rr_F s K N kn fd rc ce kd ar bn ti) {t r : Nat} (ht : t < 3) (hr : r < N t) : ry_H K (rx_up N t (N t - 1)) N (fun t' r' c => ce (18 * t' + 3 * rr_ph t r t' r' + c)) (rr_ph t r) s (nI t) (nI r) rc ce kd ar := by
  obtain ⟨hs, hk, hW, hN, -, -⟩ := F
  have n2 := (hN t ht).2
  have rf : ∀ t' q, t' < 3 → q < 100 → ry_RF (nI t) (nI r) t' q = if t' = t ∧ q = r then q + 1 else q := fun t' q h1 h2 => by
    unfold ry_RF
    by_cases c : t' = t
    · rw [if_pos (by rw [c])]
      by_cases c2 : q = r
      · rw [if_pos (by rw [c2]), if_pos ⟨c, c2⟩]
      · rw [if_neg (rq_ne c2 (by omega) (by omega)), if_neg (fun z => c2 z.2)]
    · rw [if_neg (rq_ne c (by omega) (by omega)), if_neg (fun z => c z.1)]
  refine ⟨hs, hk, hW, fun t' ht' => ⟨(hN t' ht').1, (hN t' ht').2, ?_⟩, fun t' ht' => ?_, fun t' r' ht' hr' => ?_, fun t' r' ht' hr' => ?_, fun t' ht' => ?_, fun _ _ _ _ _ _ => rfl⟩
  · by_cases c : t' = t
    · rw [c, rx_up_s]; omega
    · rw [rx_up_n c]; exact (hN t' ht').2
  · rw [rf t' 0 ht' (by decide)]
    unfold rr_ph
    by_cases c : t' = t ∧ 0 = r
    · rw [if_pos c, if_pos ⟨c.1, by omega⟩]
    · rw [if_neg c, if_neg (fun z => c ⟨z.1, by omega⟩)]
  · have b : r' < 6 := by
      by_cases c : t' = t
      · rw [c, rx_up_s] at hr'; omega
      · rw [rx_up_n c] at hr'; have := (hN t' ht').2; omega
    have pb : rr_ph t r t' r' ≤ r' + 1 := by unfold rr_ph; split <;> omega
    rw [rf t' _ ht' (by omega)]
    unfold rr_ph
    by_cases ct : t' = t
    · by_cases c1 : r ≤ r'
      · rw [if_pos (show t' = t ∧ r ≤ r' from ⟨ct, c1⟩), if_neg (by omega), if_pos (by omega)]
      · rw [if_neg (show ¬ (t' = t ∧ r ≤ r') from fun z => c1 z.2)]
        by_cases c2 : r' + 1 = r
        · rw [if_pos ⟨ct, c2⟩, if_pos (by omega)]
        · rw [if_neg (fun z => c2 z.2), if_neg (by omega)]
    · rw [if_neg (show ¬ (t' = t ∧ r ≤ r') from fun z => ct z.1), if_neg (fun z => ct z.1), if_neg (fun z => ct z.1)]
  · unfold rr_ph
    by_cases ct : t' = t
    · rw [ct, rx_up_s] at hr'
      rw [ct]
      split <;> omega
    · rw [rx_up_n ct] at hr'
      rw [if_neg (fun z => ct z.1)]; exact hr'
  · unfold rr_ph
    by_cases ct : t' = t
    · rw [ct, rx_up_s, if_pos ⟨rfl, by omega⟩]; omega
    · rw [rx_up_n ct, if_neg (fun z => ct z.1)]
      have := (hN t' ht').2
      omega
theorem rr_cells {N : Nat → Nat} {ce : Nat → Int32} {t r : Nat} (ht : t < 3) (hr : r < N t) (hN : ∀ t, t < 3 → N t ≤ 6) : ∀ t' r' c, t' < 3 → r' < rx_up N t (N t - 1) t' → c < 3 → rx_fl ce (18 * t + 3 * r) (3 * (N t - 1 - r)) (fun j => ce (18 * t + 3 * r + j + 3)) (18 * t' + 3 * r' + c) = ce (18 * t' + 3 * rr_ph t r t' r' + c) := by
  intro t' r' c ht' hr' hc
  have n2 := hN t ht
  unfold rr_ph rx_fl
  by_cases ct : t' = t
  · rw [ct, rx_up_s] at hr'
    rw [ct]
    by_cases c1 : r ≤ r'
    · rw [if_pos (by omega), if_pos ⟨rfl, c1⟩]
      exact congrArg ce (by omega)
    · rw [if_neg (by omega), if_neg (fun z => c1 z.2)]
  · rw [rx_up_n ct] at hr'
    have := hN t' ht'
    rw [if_neg (by omega), if_neg (fun z => ct z.1)]
section
variable {sz hh oo lv dp kn fd : Int32} {rc ce kd ar bn ho tB la ro un we lo nu ti : Nat → Int32}
/-- the row is put back -/
theorem rx_back {post : Int32 → SX → Prop} {t r n : Nat} {x7 : Int32} (ht : t < 3) (hn : rc t = nI n) (hn6 : n ≤ 6) (hr : r < n) (hp : post x7 (sz, hh, oo, lv, dp, 0, fd, rc, ce, kd, ar, bn, ho, tB, la, ro, un, we, lo, nu, ti)) : ∀ m j, j = m → m ≤ 3 * (n - 1 - r) → ∀ g, m < g → wX_without_89 post (nI t) (nI (18 * t + 3 * r)) (ce (18 * t + 3 * r)) (ce (18 * t + 3 * r + 1)) (ce (18 * t + 3 * r + 2)) x7 sz hh oo lv dp kn fd g (nI (18 * t + 3 * r + j) - 1) (upd rc t (nI (n - 1))) ((fun x => if 18 * t + 3 * r + 3 + j ≤ x then ce x else rx_fl ce (18 * t + 3 * r) (3 * (n - 1 - r)) (fun j => ce (18 * t + 3 * r + j + 3)) x)) kd ar bn ho tB la ro un we lo nu ti := by
  obtain ⟨a0, ha0⟩ : ∃ a0, a0 = 18 * t + 3 * r := ⟨_, rfl⟩
  rw [← ha0]
  have hc : (nI t).toNatClampNeg = t := nI_clamp (by omega)
  have hv : vp_in (nI t) 3 := vp_in_nI ht (by decide)
  intro m
  induction m with
  | zero =>
    intro j hj hm g hg
    obtain ⟨g, rfl⟩ : ∃ n', g = n' + 1 := ⟨g - 1, by omega⟩
    subst hj
    have e1 : nI a0 + 1 = nI (a0 + 1) := nI_1 _
    have e2 : nI a0 + 2 = nI (a0 + 2) := nI_add _ 2
    have x0 : vp_in (nI a0) 54 := vp_in_nI (by omega) (by decide)
    have x1 : vp_in (nI (a0 + 1)) 54 := vp_in_nI (by omega) (by decide)
    have x2 : vp_in (nI (a0 + 2)) 54 := vp_in_nI (by omega) (by decide)
    refine br_t ?_ ?_
    · rw [Nat.add_zero, Int32.lt_iff_toInt_lt]
      have := pk_sub_toInt (a := a0) (b := 1) (by omega) (by decide)
      have e3 : (nI a0 - 1).toInt = (a0 : Int) - 1 := this
      rw [e3, nI_toInt (by omega)]
      omega
    · rw [e1, e2, nI_clamp (n := a0) (by omega), nI_clamp (n := a0 + 1) (by omega), nI_clamp (n := a0 + 2) (by omega), hc]
      refine ⟨x0, nm_e ⟨x1, nm_e ⟨x2, nm_r (e' := ce) ?_ ⟨hv, hv, nm_r (e' := rc) ?_ hp⟩⟩⟩⟩
      · funext x
        by_cases c0 : x = a0
        · rw [c0, pk_un (by omega), pk_un (by omega), pk_us]
        · by_cases c1 : x = a0 + 1
          · rw [c1, pk_un (by omega), pk_us]
          · by_cases c2 : x = a0 + 2
            · rw [c2, pk_us]
            · rw [pk_un c2, pk_un c1, pk_un c0]
              by_cases c3 : a0 + 3 + 0 ≤ x
              · rw [if_pos c3]
              · rw [if_neg c3]; exact rx_fl_out (by omega)
      · rw [pk_us, nI_1]
        funext x
        by_cases c : x = t
        · rw [c, pk_us, hn]; exact congrArg nI (by omega)
        · rw [pk_un c, pk_un c]
  | succ m ih =>
    intro j hj hm g hg
    obtain ⟨g, rfl⟩ : ∃ n', g = n' + 1 := ⟨g - 1, by omega⟩
    subst hj
    have e0 : nI (a0 + (m + 1)) - 1 = nI (a0 + m) := nI_pred _
    rw [e0]
    have e3 : nI (a0 + m) + 3 = nI (a0 + m + 3) := nI_add _ 3
    refine br_f (nI_nlt (by omega) (by omega)) ?_
    rw [e3, nI_clamp (n := a0 + m) (by omega), nI_clamp (n := a0 + m + 3) (by omega)]
    refine ⟨vp_in_nI (by omega) (by decide), vp_in_nI (by omega) (by decide), nm_r (e' := fun x => if a0 + 3 + m ≤ x then ce x else rx_fl ce a0 (3 * (n - 1 - r)) (fun j => ce (a0 + j + 3)) x) ?_ (nm_r (e' := nI (a0 + m) - 1) ?_ (ih m rfl (by omega) g (by omega)))⟩
    · funext x
      by_cases c : x = a0 + m + 3
      · rw [c, pk_us]
        dsimp only
        rw [if_neg (show ¬ a0 + 3 + (m + 1) ≤ a0 + m by omega), rx_fl_in (by omega), if_pos (by omega)]
      · rw [pk_un c]
        by_cases c2 : a0 + 3 + m ≤ x
        · rw [if_pos c2, if_pos (by omega)]
        · rw [if_neg c2, if_neg (by omega)]
    · rw [Int32.sub_eq_add_neg]
end
theorem i_vc_without {k : Nat} {u : SX} {v : SY} (I : i_Rel k u v) (hk : k + 5 ≤ 2560) (v1 : Int32) (v2 : Int32) : wpX_without (fun r u' => wpY_without (fun r' v' => r' = r ∧ i_Rel (k + 5) u' v') v v1 v2) u v1 v2 := by
  obtain ⟨sz, hh, oo, lv, dp, kn, fd, rc, ce, kd, ar, bn, ho, tB, la, ro, un, we, lo, nu, ti⟩ := u
  obtain ⟨zy, yh, yo, tp, sT, sR, yd, cy, ey, dy, ry, fr, st, yt, be, rA, fo, va, se⟩ := v
  obtain ⟨s, K, N, rfl, rfl, rfl, rfl, rfl, rfl, rfl, rfl, F⟩ := I
  obtain ⟨h6, h3, -, -, -⟩ := rq_st (a := ry) s F.2.2.1
  have J : ∀ (yh yo : Int32) (fr : Nat → Int32), i_Rel (k + 5) (nI s, nI (rq_h K s), nI (rq_o K s), lv, dp, kn, fd, cy, ey, dy, ry, bn, ho, tB, la, ro, un, we, lo, nu, ti) (nI s, yh, yo, tp, sT, sR, yd, cy, ey, dy, ry, fr, st, yt, be, rA, fo, va, se) := fun yh yo fr => ⟨s, K, N, rfl, rfl, rfl, rfl, rfl, rfl, rfl, rfl, F⟩
  unfold wpX_without wpY_without
  refine rx_isWhole h6 h3 ?_
  by_cases c : rq_o K s = 0 ∧ rq_h K s = 1
  · rw [if_pos c]
    refine br_f (by decide) ?_
    have yw : ∀ Q : Int32 → SY → Prop, (∀ fr' : Nat → Int32, Q 1 (nI s, nI (rq_h K s), nI (rq_o K s), tp, sT, sR, yd, cy, ey, dy, ry, fr', st, yt, be, rA, fo, va, se)) → wpY_whole Q (nI s, yh, yo, tp, sT, sR, yd, cy, ey, dy, ry, fr, st, yt, be, rA, fo, va, se) := fun Q hQ => ry_whole F.1 F.2.1 F.2.2.1 (fun fr' => by rw [if_pos c]; exact hQ fr')
    rcases rr_ix v1 (n := 3) (by decide) with h | ⟨t, ht, rfl⟩
    · exact rx_isR0 h (br_t rfl (yw _ (fun fr' => br_f (by decide) (ry_isR0 h (br_t rfl ⟨rfl, J _ _ _⟩)))))
    · obtain ⟨n1, n2⟩ := F.2.2.2.1 t ht
      rcases rr_ix v2 (n := N t) (by omega) with h | ⟨r, hr, rfl⟩
      · exact rx_isR1 ht n1 h (br_t rfl (yw _ (fun fr' => br_f (by decide) (ry_isR1 ht n1 h (br_t rfl ⟨rfl, J _ _ _⟩)))))
      · refine rx_isR2 ht n1 n2 hr (br_f (by decide) (rx_cellAt (c := 0) ?_))
        have e1 : nI (18 * t + 3 * r) + 1 = nI (18 * t + 3 * r + 1) := nI_1 _
        have e2 : nI (18 * t + 3 * r) + 2 = nI (18 * t + 3 * r + 2) := nI_add _ 2
        rw [Nat.add_zero, e1, e2, nI_clamp (n := 18 * t + 3 * r) (by omega), nI_clamp (n := 18 * t + 3 * r + 1) (by omega), nI_clamp (n := 18 * t + 3 * r + 2) (by omega)]
        refine ⟨vp_in_nI (by omega) (by decide), nm_e ⟨vp_in_nI (by omega) (by decide), nm_e ⟨vp_in_nI (by omega) (by decide), nm_e ?_⟩⟩⟩
        refine rx_remove ht n1 n2 hr ?_
        refine rx_work0 (N := rx_up N t (N t - 1)) (cl := fun t' r' c => ey (18 * t' + 3 * rr_ph t r t' r' + c)) F.1 F.2.1 F.2.2.1 (rr_Nup F.2.2.2.1 (by omega)) (rr_cells ht hr (fun t' ht' => (F.2.2.2.1 t' ht').2)) c.1 c.2 (fun lv' dp' ho' tB' la' ro' un' we' lo' nu' ti' hti => ⟨vp_in_nI ht (by decide), ?_⟩)
        rw [nI_clamp (n := t) (by omega), pk_us]
        refine rx_cellAt (c := 0) (nm_e ⟨3 * (N t - 1 - r) + 1, ?_⟩)
        have em : 18 * t + 3 * (N t - 1) + 0 = 18 * t + 3 * r + 3 * (N t - 1 - r) := by omega
        rw [em]
        have B := rx_back (sz := nI s) (hh := nI (rq_h K s)) (oo := nI (rq_o K s)) (lv := lv') (dp := dp') (kn := 1) (fd := rq_V K ry (rx_up N t (N t - 1)) (fun t' r' c => ey (18 * t' + 3 * rr_ph t r t' r' + c)) s 0 (fun _ => 0)) (rc := cy) (ce := ey) (kd := dy) (ar := ry) (bn := bn) (ho := ho') (tB := tB') (la := la') (ro := ro') (un := un') (we := we') (lo := lo') (nu := nu') (ti := ti') (t := t) (r := r) (n := N t) (x7 := rq_V K ry (rx_up N t (N t - 1)) (fun t' r' c => ey (18 * t' + 3 * rr_ph t r t' r' + c)) s 0 (fun _ => 0)) (post := fun r_1 u' => wpY_without (fun r' v' => r' = r_1 ∧ i_Rel (k + 5) u' v') (nI s, yh, yo, tp, sT, sR, yd, cy, ey, dy, ry, fr, st, yt, be, rA, fo, va, se) (nI t) (nI r)) ht n1 n2 hr (by
          unfold wpY_without
          exact yw _ (fun fr' => br_f (by decide) (ry_isR2 ht n1 n2 hr (br_f (by decide) (ry_work (rr_H1 F ht hr) c.1 c.2 _ (fun st' yt' be' rA' fo' va' se' h1 h2 => ⟨h1, s, K, N, rfl, rfl, rfl, rfl, rfl, rfl, rfl, rfl, rr_F_tab F F.2.2.2.1⟩)))))) (3 * (N t - 1 - r)) _ rfl (Nat.le_refl _) (3 * (N t - 1 - r) + 1) (by omega)
        have ec : (fun x => if 18 * t + 3 * r + 3 + 3 * (N t - 1 - r) ≤ x then ey x else rx_fl ey (18 * t + 3 * r) (3 * (N t - 1 - r)) (fun j => ey (18 * t + 3 * r + j + 3)) x) = rx_fl ey (18 * t + 3 * r) (3 * (N t - 1 - r)) (fun j => ey (18 * t + 3 * r + j + 3)) := by
          funext x
          by_cases cx : 18 * t + 3 * r + 3 + 3 * (N t - 1 - r) ≤ x
          · rw [if_pos cx, rx_fl_out (by omega)]
          · rw [if_neg cx]
        rw [ec] at B
        exact B
  · rw [if_neg c]
    refine br_t rfl (ry_whole F.1 F.2.1 F.2.2.1 (fun fr' => ?_))
    rw [if_neg c]
    exact br_t rfl ⟨rfl, J _ _ _⟩
end
