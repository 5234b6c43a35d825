section
/-! pure rows to paste: stores, nI and lN arithmetic, masks, shifts, narrowing, branches by naturals (pk_le, pk_lt, pk_eq), loops (lp1 .. lp16: the measure of the state; rp1 ..: recursion), negatives. Take what you need -/
theorem pk_us {f : Nat → Int32} {k : Nat} {x : Int32} : upd f k x k = x := if_pos rfl
theorem pk_un {f : Nat → Int32} {k j : Nat} {x : Int32} (h : j ≠ k) : upd f k x j = f j := if_neg h
theorem pk_uLs {f : Nat → Int64} {k : Nat} {x : Int64} : vp_updL f k x k = x := if_pos rfl
theorem pk_uLn {f : Nat → Int64} {k j : Nat} {x : Int64} (h : j ≠ k) : vp_updL f k x j = f j := if_neg h
theorem pk_sub {a b : Nat} (h : b ≤ a) : nI a - nI b = nI (a - b) := by
  obtain ⟨c, rfl⟩ : ∃ c, a = c + b := ⟨a - b, by omega⟩
  rw [← nI_add, Int32.add_sub_cancel, Nat.add_sub_cancel]
theorem pk_m1 (n : Nat) : nI (n + 1) + (-1) = nI n := by
  rw [← nI_1, Int32.add_assoc, show (1 : Int32) + (-1) = 0 from rfl, Int32.add_zero]
theorem pk_mul (a b : Nat) : nI a * nI b = nI (a * b) := (Int32.ofNat_mul a b).symm
theorem pk_div {a d : Nat} (ha : a < 2 ^ 31) (h0 : 0 < d) (hd : d < 2 ^ 31) : nI a / nI d = nI (a / d) := by
  apply Int32.toInt_inj.mp
  rw [lg_idiv_nonneg (by rw [nI_toInt ha]; omega) (by rw [nI_toInt hd]; omega), nI_toInt ha, nI_toInt hd, nI_toInt (Nat.lt_of_le_of_lt (Nat.div_le_self a d) ha)]
  first | rfl | exact (Int.natCast_ediv _ _).symm
theorem pk_rem {a d : Nat} (ha : a < 2 ^ 31) (h0 : 0 < d) (hd : d < 2 ^ 31) : nI a - nI a / nI d * nI d = nI (a % d) := by
  rw [pk_div ha h0 hd, pk_mul, pk_sub (Nat.div_mul_le_self a d)]
  exact congrArg nI (by have := Nat.div_add_mod' a d; omega)
theorem pk_sub_toInt {a b : Nat} (ha : a < 2 ^ 30) (hb : b < 2 ^ 30) : (nI a - nI b).toInt = (a : Int) - b := by
  rw [Int32.toInt_sub, nI_toInt (by omega), nI_toInt (by omega)]
  exact Int.bmod_eq_of_le (by omega) (by omega)
theorem pk_sneg {a b : Nat} (hb : b < 2 ^ 30) (h : a < b) : nI a - nI b < 0 := by
  rw [Int32.lt_iff_toInt_lt, pk_sub_toInt (by omega) hb, show (0 : Int32).toInt = 0 from by decide]
  omega
theorem pk_ix (x : Int32) {n : Nat} (hn : n < 2 ^ 31) : x < 0 ∨ nI n ≤ x ∨ ∃ j : Nat, j < n ∧ x = nI j := by
  by_cases h : x < 0
  · exact Or.inl h
  · obtain ⟨j, hj, rfl⟩ := nI_of h
    by_cases h2 : j < n
    · exact Or.inr (Or.inr ⟨j, h2, rfl⟩)
    · exact Or.inr (Or.inl (nI_le (by omega) hj))
theorem pk_le {x y : Int32} {A B : Prop} (a b : Nat) (f : a ≤ b → A) (g : b < a → B) (hx : x = nI a := by rfl) (hy : y = nI b := by rfl) (ha : a < 2 ^ 31 := by omega) (hb : b < 2 ^ 31 := by omega) : (x ≤ y → A) ∧ (¬ x ≤ y → B) := by
  subst hx hy
  rw [nI_leI ha hb]
  exact ⟨f, fun z => g (by omega)⟩
theorem pk_lt {x y : Int32} {A B : Prop} (a b : Nat) (f : a < b → A) (g : b ≤ a → B) (hx : x = nI a := by rfl) (hy : y = nI b := by rfl) (ha : a < 2 ^ 31 := by omega) (hb : b < 2 ^ 31 := by omega) : (x < y → A) ∧ (¬ x < y → B) := by
  subst hx hy
  rw [nI_ltI ha hb]
  exact ⟨f, fun z => g (by omega)⟩
theorem pk_eq {x y : Int32} {A B : Prop} (a b : Nat) (f : a = b → A) (g : a ≠ b → B) (hx : x = nI a := by rfl) (hy : y = nI b := by rfl) (ha : a < 2 ^ 31 := by omega) (hb : b < 2 ^ 31 := by omega) : (x = y → A) ∧ (¬ x = y → B) := by
  subst hx hy
  rw [nI_eq ha hb]
  exact ⟨f, g⟩
theorem pk_in {x : Int32} (n N : Nat) (h : n < N) (hx : x = nI n := by rfl) (hN : N < 2 ^ 31 := by omega) : vp_in x N := by
  subst hx
  exact vp_in_nI h hN
theorem pk_cl {x : Int32} (n : Nat) (hx : x = nI n := by rfl) (h : n < 2 ^ 31 := by omega) : x.toNatClampNeg = n := by
  subst hx
  exact nI_clamp h
end
section
/-! static theory of the words: what reading the words leaves open -/
def uv_st {α : Type} (f : Nat → α) (i : Nat) (v : α) : Nat → α := fun j => if j = i then v else f j
theorem uv_se {α : Type} {f : Nat → α} {i : Nat} {v : α} : uv_st f i v i = v := if_pos rfl
theorem uv_sn {α : Type} {f : Nat → α} {i j : Nat} {v : α} (h : j ≠ i) : uv_st f i v j = f j := if_neg h

/-- open, vars, functions, kind, word, vars at, operands, names -/
abbrev ss_T : Type := Nat × Nat × Nat × (Nat → Int32) × (Nat → Nat) × (Nat → Nat) × (Nat → Nat) × (Nat → Int32)
def ss_O (s : ss_T) : Nat := s.1
def ss_V (s : ss_T) : Nat := s.2.1
def ss_F (s : ss_T) : Nat := s.2.2.1
def ss_K (s : ss_T) : Nat → Int32 := s.2.2.2.1
def ss_W (s : ss_T) : Nat → Nat := s.2.2.2.2.1
def ss_C (s : ss_T) : Nat → Nat := s.2.2.2.2.2.1
def ss_P (s : ss_T) : Nat → Nat := s.2.2.2.2.2.2.1
def ss_N (s : ss_T) : Nat → Int32 := s.2.2.2.2.2.2.2

def ss_fx (K : Nat → Int32) : Nat → Nat
  | 0 => 0
  | i + 1 => if K (i + 1) = 5 then i + 1 else ss_fx K i
def ss_fd (K : Nat → Int32) : Nat → Nat
  | 0 => 0
  | i + 1 => ss_fd K i + (if K (i + 1) = 5 then 1 else 0)
def ss_ow (K : Nat → Int32) (C : Nat → Nat) (j : Nat) : Nat → Nat
  | 0 => 0
  | i + 1 => ss_ow K C j i + (if K (i + 1) = 5 ∧ C (i + 1) ≤ j then 1 else 0)
def ss_ls (N : Nat → Int32) (x : Int32) : Nat → Nat
  | 0 => 0
  | j + 1 => if N j = x then j + 1 else ss_ls N x j
def ss_lx (K : Nat → Int32) : Nat → Nat
  | 0 => 0
  | i + 1 => if K (i + 1) = 5 then 0 else if K (i + 1) = 3 then i + 1 else ss_lx K i

def ss_f (s : ss_T) : Nat := ss_fx (ss_K s) (ss_O s)
def ss_L (s : ss_T) : Nat := ss_V s - ss_C s (ss_f s)
def ss_Q (s : ss_T) : Nat := ss_P s (ss_f s)
/-- place + 1 of the variable that a name means, 0 if none -/
def ss_l (s : ss_T) (x : Int32) : Nat := ss_ls (ss_N s) x (ss_V s)

def ss_0 : ss_T := (0, 0, 0, fun _ => 0, fun _ => 0, fun _ => 0, fun _ => 0, fun _ => 0)
def ss_smp (s : ss_T) (q : Nat) : ss_T := (ss_O s, ss_V s, ss_F s, ss_K s, ss_W s, ss_C s, uv_st (ss_P s) (ss_f s) q, ss_N s)
def ss_dcl (s : ss_T) (a : Int32) : ss_T := (ss_O s, ss_V s + 1, ss_F s, ss_K s, ss_W s, ss_C s, uv_st (ss_P s) (ss_f s) 0, uv_st (ss_N s) (ss_V s) a)
def ss_fun (s : ss_T) (p : Nat) (a : Int32) : ss_T := (ss_O s + 1, ss_V s + 1, ss_F s + 1, uv_st (ss_K s) (ss_O s + 1) 5, uv_st (ss_W s) (ss_O s + 1) p, uv_st (ss_C s) (ss_O s + 1) (ss_V s), uv_st (ss_P s) (ss_O s + 1) 0, uv_st (ss_N s) (ss_V s) a)
def ss_blk (s : ss_T) (p : Nat) (a : Int32) : ss_T := (ss_O s + 1, ss_V s, ss_F s, uv_st (ss_K s) (ss_O s + 1) a, uv_st (ss_W s) (ss_O s + 1) p, uv_st (ss_C s) (ss_O s + 1) (ss_V s), uv_st (uv_st (ss_P s) (ss_f s) 0) (ss_O s + 1) 0, ss_N s)
def ss_els (s : ss_T) (p : Nat) : ss_T := (ss_O s, ss_C s (ss_O s), ss_F s, uv_st (ss_K s) (ss_O s) 4, uv_st (ss_W s) (ss_O s) p, ss_C s, ss_P s, ss_N s)
def ss_enb (s : ss_T) : ss_T := (ss_O s - 1, ss_C s (ss_O s), ss_F s, ss_K s, ss_W s, ss_C s, ss_P s, ss_N s)
def ss_enf (s : ss_T) : ss_T := (ss_O s - 1, ss_C s (ss_O s), ss_F s, ss_K s, ss_W s, ss_C s, uv_st (ss_P s) (ss_fx (ss_K s) (ss_O s - 1)) (ss_P s (ss_fx (ss_K s) (ss_O s - 1)) + 1), ss_N s)
theorem ss_smp_O (s : ss_T) (q : Nat) : ss_O (ss_smp s q) = ss_O s := rfl
theorem ss_smp_V (s : ss_T) (q : Nat) : ss_V (ss_smp s q) = ss_V s := rfl
theorem ss_smp_F (s : ss_T) (q : Nat) : ss_F (ss_smp s q) = ss_F s := rfl
theorem ss_smp_K (s : ss_T) (q : Nat) : ss_K (ss_smp s q) = ss_K s := rfl
theorem ss_smp_W (s : ss_T) (q : Nat) : ss_W (ss_smp s q) = ss_W s := rfl
theorem ss_smp_C (s : ss_T) (q : Nat) : ss_C (ss_smp s q) = ss_C s := rfl
theorem ss_smp_P (s : ss_T) (q : Nat) : ss_P (ss_smp s q) = uv_st (ss_P s) (ss_f s) q := rfl
theorem ss_smp_N (s : ss_T) (q : Nat) : ss_N (ss_smp s q) = ss_N s := rfl
theorem ss_dcl_O (s : ss_T) (a : Int32) : ss_O (ss_dcl s a) = ss_O s := rfl
theorem ss_dcl_V (s : ss_T) (a : Int32) : ss_V (ss_dcl s a) = ss_V s + 1 := rfl
theorem ss_dcl_F (s : ss_T) (a : Int32) : ss_F (ss_dcl s a) = ss_F s := rfl
theorem ss_dcl_K (s : ss_T) (a : Int32) : ss_K (ss_dcl s a) = ss_K s := rfl
theorem ss_dcl_W (s : ss_T) (a : Int32) : ss_W (ss_dcl s a) = ss_W s := rfl
theorem ss_dcl_C (s : ss_T) (a : Int32) : ss_C (ss_dcl s a) = ss_C s := rfl
theorem ss_dcl_P (s : ss_T) (a : Int32) : ss_P (ss_dcl s a) = uv_st (ss_P s) (ss_f s) 0 := rfl
theorem ss_dcl_N (s : ss_T) (a : Int32) : ss_N (ss_dcl s a) = uv_st (ss_N s) (ss_V s) a := rfl
theorem ss_fun_O (s : ss_T) (p : Nat) (a : Int32) : ss_O (ss_fun s p a) = ss_O s + 1 := rfl
theorem ss_fun_V (s : ss_T) (p : Nat) (a : Int32) : ss_V (ss_fun s p a) = ss_V s + 1 := rfl
theorem ss_fun_F (s : ss_T) (p : Nat) (a : Int32) : ss_F (ss_fun s p a) = ss_F s + 1 := rfl
theorem ss_fun_K (s : ss_T) (p : Nat) (a : Int32) : ss_K (ss_fun s p a) = uv_st (ss_K s) (ss_O s + 1) 5 := rfl
theorem ss_fun_W (s : ss_T) (p : Nat) (a : Int32) : ss_W (ss_fun s p a) = uv_st (ss_W s) (ss_O s + 1) p := rfl
theorem ss_fun_C (s : ss_T) (p : Nat) (a : Int32) : ss_C (ss_fun s p a) = uv_st (ss_C s) (ss_O s + 1) (ss_V s) := rfl
theorem ss_fun_P (s : ss_T) (p : Nat) (a : Int32) : ss_P (ss_fun s p a) = uv_st (ss_P s) (ss_O s + 1) 0 := rfl
theorem ss_fun_N (s : ss_T) (p : Nat) (a : Int32) : ss_N (ss_fun s p a) = uv_st (ss_N s) (ss_V s) a := rfl
theorem ss_blk_O (s : ss_T) (p : Nat) (a : Int32) : ss_O (ss_blk s p a) = ss_O s + 1 := rfl
theorem ss_blk_V (s : ss_T) (p : Nat) (a : Int32) : ss_V (ss_blk s p a) = ss_V s := rfl
theorem ss_blk_F (s : ss_T) (p : Nat) (a : Int32) : ss_F (ss_blk s p a) = ss_F s := rfl
theorem ss_blk_K (s : ss_T) (p : Nat) (a : Int32) : ss_K (ss_blk s p a) = uv_st (ss_K s) (ss_O s + 1) a := rfl
theorem ss_blk_W (s : ss_T) (p : Nat) (a : Int32) : ss_W (ss_blk s p a) = uv_st (ss_W s) (ss_O s + 1) p := rfl
theorem ss_blk_C (s : ss_T) (p : Nat) (a : Int32) : ss_C (ss_blk s p a) = uv_st (ss_C s) (ss_O s + 1) (ss_V s) := rfl
theorem ss_blk_P (s : ss_T) (p : Nat) (a : Int32) : ss_P (ss_blk s p a) = uv_st (uv_st (ss_P s) (ss_f s) 0) (ss_O s + 1) 0 := rfl
theorem ss_blk_N (s : ss_T) (p : Nat) (a : Int32) : ss_N (ss_blk s p a) = ss_N s := rfl
theorem ss_els_O (s : ss_T) (p : Nat) : ss_O (ss_els s p) = ss_O s := rfl
theorem ss_els_V (s : ss_T) (p : Nat) : ss_V (ss_els s p) = ss_C s (ss_O s) := rfl
theorem ss_els_F (s : ss_T) (p : Nat) : ss_F (ss_els s p) = ss_F s := rfl
theorem ss_els_K (s : ss_T) (p : Nat) : ss_K (ss_els s p) = uv_st (ss_K s) (ss_O s) 4 := rfl
theorem ss_els_W (s : ss_T) (p : Nat) : ss_W (ss_els s p) = uv_st (ss_W s) (ss_O s) p := rfl
theorem ss_els_C (s : ss_T) (p : Nat) : ss_C (ss_els s p) = ss_C s := rfl
theorem ss_els_P (s : ss_T) (p : Nat) : ss_P (ss_els s p) = ss_P s := rfl
theorem ss_els_N (s : ss_T) (p : Nat) : ss_N (ss_els s p) = ss_N s := rfl
theorem ss_enb_O (s : ss_T) : ss_O (ss_enb s) = ss_O s - 1 := rfl
theorem ss_enb_V (s : ss_T) : ss_V (ss_enb s) = ss_C s (ss_O s) := rfl
theorem ss_enb_F (s : ss_T) : ss_F (ss_enb s) = ss_F s := rfl
theorem ss_enb_K (s : ss_T) : ss_K (ss_enb s) = ss_K s := rfl
theorem ss_enb_W (s : ss_T) : ss_W (ss_enb s) = ss_W s := rfl
theorem ss_enb_C (s : ss_T) : ss_C (ss_enb s) = ss_C s := rfl
theorem ss_enb_P (s : ss_T) : ss_P (ss_enb s) = ss_P s := rfl
theorem ss_enb_N (s : ss_T) : ss_N (ss_enb s) = ss_N s := rfl
theorem ss_enf_O (s : ss_T) : ss_O (ss_enf s) = ss_O s - 1 := rfl
theorem ss_enf_V (s : ss_T) : ss_V (ss_enf s) = ss_C s (ss_O s) := rfl
theorem ss_enf_F (s : ss_T) : ss_F (ss_enf s) = ss_F s := rfl
theorem ss_enf_K (s : ss_T) : ss_K (ss_enf s) = ss_K s := rfl
theorem ss_enf_W (s : ss_T) : ss_W (ss_enf s) = ss_W s := rfl
theorem ss_enf_C (s : ss_T) : ss_C (ss_enf s) = ss_C s := rfl
theorem ss_enf_P (s : ss_T) : ss_P (ss_enf s) = uv_st (ss_P s) (ss_fx (ss_K s) (ss_O s - 1)) (ss_P s (ss_fx (ss_K s) (ss_O s - 1)) + 1) := rfl
theorem ss_enf_N (s : ss_T) : ss_N (ss_enf s) = ss_N s := rfl

/-- a name: 0 .. 7 -/
def ss_nm (x : Int32) : Prop := ∃ m : Nat, m < 8 ∧ x = nI m
def ss_k5 (x : Int32) : Prop := ∃ m : Nat, m < 5 ∧ x = nI m
/-- word p of kind k and argument a may stand at s, and leads to t -/
def ss_R (k a : Int32) (p : Nat) (s t : ss_T) : Prop :=
  (k = 0 ∧ ss_Q s < 6 ∧ t = ss_smp s (ss_Q s + 1)) ∨
  (k = 1 ∧ ss_nm a ∧ ss_l s a ≠ 0 ∧ ss_Q s < 6 ∧ t = ss_smp s (ss_Q s + 1)) ∨
  (k = 2 ∧ ss_k5 a ∧ 2 ≤ ss_Q s ∧ t = ss_smp s (ss_Q s - 1)) ∨
  (k = 3 ∧ 2 ≤ ss_Q s ∧ t = ss_smp s (ss_Q s - 1)) ∨
  (k = 4 ∧ ss_nm a ∧ ss_Q s < 6 ∧ ss_O s < 10 ∧ ss_F s < 16 ∧ t = ss_fun s p a) ∨
  (k = 5 ∧ ss_nm a ∧ ss_Q s = 1 ∧ ss_L s < 8 ∧ t = ss_dcl s a) ∨
  (k = 6 ∧ ss_nm a ∧ ss_Q s = 1 ∧ ss_l s a ≠ 0 ∧ t = ss_smp s 0) ∨
  (k = 7 ∧ ss_k5 a ∧ ss_Q s = 1 ∧ ((a = 3 ∨ a = 4) → ss_lx (ss_K s) (ss_O s) ≠ 0) ∧ t = ss_smp s 0) ∨
  (k = 8 ∧ (a = 1 ∨ a = 2 ∨ a = 3) ∧ ss_Q s = (if a = 2 then 1 else 0) ∧ ss_O s < 10 ∧ t = ss_blk s p a) ∨
  (k = 9 ∧ a = 0 ∧ 1 ≤ ss_O s ∧ ss_K s (ss_O s) = 2 ∧ ss_Q s = 0 ∧ t = ss_els s p) ∨
  (k = 10 ∧ 1 ≤ ss_O s ∧ ss_Q s = 0 ∧ ((ss_K s (ss_O s) = 5 ∧ t = ss_enf s) ∨ (ss_K s (ss_O s) ≠ 5 ∧ t = ss_enb s)))
/-- the words below n, read one by one -/
def ss_S (k a : Nat → Int32) (n : Nat) (S : Nat → ss_T) : Prop := S 0 = ss_0 ∧ ∀ p, p < n → ss_R (k p) (a p) p (S p) (S (p + 1))

/-! ### fx, fd, ow, ls, lx -/
theorem ss_fx_le (K : Nat → Int32) : ∀ i, ss_fx K i ≤ i
  | 0 => Nat.le_refl 0
  | i + 1 => by
    have := ss_fx_le K i
    unfold ss_fx
    split <;> omega
theorem ss_fx_k (K : Nat → Int32) : ∀ i, ss_fx K i = 0 ∨ (1 ≤ ss_fx K i ∧ K (ss_fx K i) = 5)
  | 0 => Or.inl rfl
  | i + 1 => by
    have := ss_fx_k K i
    unfold ss_fx
    by_cases h : K (i + 1) = 5
    · rw [if_pos h]; exact Or.inr ⟨by omega, h⟩
    · rw [if_neg h]; exact this
theorem ss_fx_ge (K : Nat → Int32) : ∀ i c, 1 ≤ c → c ≤ i → K c = 5 → c ≤ ss_fx K i
  | 0, c, h1, h2, _ => by omega
  | i + 1, c, h1, h2, h5 => by
    unfold ss_fx
    by_cases h : K (i + 1) = 5
    · rw [if_pos h]; exact h2
    · rw [if_neg h]
      by_cases e : c = i + 1
      · subst e; exact absurd h5 h
      · exact ss_fx_ge K i c h1 (by omega) h5
theorem ss_fx_cg {K K' : Nat → Int32} : ∀ {i : Nat}, (∀ c, c ≤ i → K c = K' c) → ss_fx K i = ss_fx K' i
  | 0, _ => rfl
  | i + 1, h => by
    unfold ss_fx
    rw [h (i + 1) (Nat.le_refl _), ss_fx_cg (i := i) (fun c hc => h c (by omega))]
theorem ss_fx_up {K : Nat → Int32} {i : Nat} : ∀ {j : Nat}, i ≤ j → (∀ c, i < c → c ≤ j → K c ≠ 5) → ss_fx K j = ss_fx K i
  | 0, h, _ => by have : i = 0 := by omega
                  subst this; rfl
  | j + 1, h, hc => by
    by_cases e : i = j + 1
    · subst e; rfl
    · have := ss_fx_up (K := K) (i := i) (j := j) (by omega) (fun c h1 h2 => hc c h1 (by omega))
      rw [← this]
      show (if K (j + 1) = 5 then j + 1 else ss_fx K j) = _
      rw [if_neg (hc (j + 1) (by omega) (Nat.le_refl _))]
theorem ss_fx_no {K : Nat → Int32} {i c : Nat} (h1 : ss_fx K i < c) (h2 : c ≤ i) : K c ≠ 5 := fun h => by
  have := ss_fx_ge K i c (by omega) h2 h
  omega
theorem ss_fx_s5 {K : Nat → Int32} {i : Nat} (h : K (i + 1) = 5) : ss_fx K (i + 1) = i + 1 := by
  show (if K (i + 1) = 5 then i + 1 else ss_fx K i) = _
  rw [if_pos h]
theorem ss_fx_sn {K : Nat → Int32} {i : Nat} (h : K (i + 1) ≠ 5) : ss_fx K (i + 1) = ss_fx K i := by
  show (if K (i + 1) = 5 then i + 1 else ss_fx K i) = _
  rw [if_neg h]
theorem ss_fx_fx (K : Nat → Int32) (i : Nat) : ss_fx K (ss_fx K i) = ss_fx K i := by
  symm
  exact ss_fx_up (ss_fx_le K i) (fun c h1 h2 => ss_fx_no h1 h2)
theorem ss_fd_le (K : Nat → Int32) : ∀ i, ss_fd K i ≤ i
  | 0 => Nat.le_refl 0
  | i + 1 => by
    have := ss_fd_le K i
    unfold ss_fd
    split <;> omega
theorem ss_fd_cg {K K' : Nat → Int32} : ∀ {i : Nat}, (∀ c, 1 ≤ c → c ≤ i → K c = K' c) → ss_fd K i = ss_fd K' i
  | 0, _ => rfl
  | i + 1, h => by
    unfold ss_fd
    rw [h (i + 1) (by omega) (Nat.le_refl _), ss_fd_cg (i := i) (fun c h1 hc => h c h1 (by omega))]
theorem ss_fd_fx (K : Nat → Int32) : ∀ i, ss_fd K (ss_fx K i) = ss_fd K i
  | 0 => rfl
  | i + 1 => by
    by_cases h : K (i + 1) = 5
    · rw [ss_fx_s5 h]
    · rw [ss_fx_sn h, ss_fd_fx K i]
      show _ = ss_fd K i + (if K (i + 1) = 5 then 1 else 0)
      rw [if_neg h]; rfl
theorem ss_fd_s5 {K : Nat → Int32} {i : Nat} (h : K (i + 1) = 5) : ss_fd K (i + 1) = ss_fd K i + 1 := by
  show ss_fd K i + (if K (i + 1) = 5 then 1 else 0) = _
  rw [if_pos h]
theorem ss_fd_sn {K : Nat → Int32} {i : Nat} (h : K (i + 1) ≠ 5) : ss_fd K (i + 1) = ss_fd K i := by
  show ss_fd K i + (if K (i + 1) = 5 then 1 else 0) = _
  rw [if_neg h]; rfl
theorem ss_fd_mono (K : Nat → Int32) {i : Nat} : ∀ {j : Nat}, i ≤ j → ss_fd K i ≤ ss_fd K j
  | 0, h => by have : i = 0 := by omega
               subst this; exact Nat.le_refl _
  | j + 1, h => by
    by_cases e : i = j + 1
    · subst e; exact Nat.le_refl _
    · have := ss_fd_mono K (i := i) (j := j) (by omega)
      have h2 : ss_fd K (j + 1) = ss_fd K j + (if K (j + 1) = 5 then 1 else 0) := rfl
      omega
theorem ss_fd_lt {K : Nat → Int32} {i j : Nat} (h : i < j) (h5 : K j = 5) : ss_fd K i < ss_fd K j := by
  obtain ⟨q, rfl⟩ : ∃ q, j = q + 1 := ⟨j - 1, by omega⟩
  have := ss_fd_mono K (i := i) (j := q) (by omega)
  rw [ss_fd_s5 h5]; omega
theorem ss_fd_inj {K : Nat → Int32} {i j : Nat} (hi : i = 0 ∨ K i = 5) (hj : j = 0 ∨ K j = 5) (h : ss_fd K i = ss_fd K j) : i = j := by
  rcases Nat.lt_trichotomy i j with l | l | l
  · rcases hj with e | e
    · omega
    · have := ss_fd_lt l e; omega
  · exact l
  · rcases hi with e | e
    · omega
    · have := ss_fd_lt l e; omega
theorem ss_ow_le (K : Nat → Int32) (C : Nat → Nat) (j : Nat) : ∀ i, ss_ow K C j i ≤ ss_fd K i
  | 0 => Nat.le_refl 0
  | i + 1 => by
    have := ss_ow_le K C j i
    show ss_ow K C j i + (if K (i + 1) = 5 ∧ C (i + 1) ≤ j then 1 else 0) ≤ ss_fd K i + (if K (i + 1) = 5 then 1 else 0)
    by_cases h : K (i + 1) = 5
    · rw [if_pos h]; split <;> omega
    · rw [if_neg h, if_neg (fun z => h z.1)]; omega
theorem ss_ow_cg {K K' : Nat → Int32} {C C' : Nat → Nat} {j : Nat} : ∀ {i : Nat}, (∀ c, 1 ≤ c → c ≤ i → K c = K' c ∧ C c = C' c) → ss_ow K C j i = ss_ow K' C' j i
  | 0, _ => rfl
  | i + 1, h => by
    unfold ss_ow
    rw [(h (i + 1) (by omega) (Nat.le_refl _)).1, (h (i + 1) (by omega) (Nat.le_refl _)).2, ss_ow_cg (i := i) (fun c h1 hc => h c h1 (by omega))]
theorem ss_ow_all {K : Nat → Int32} {C : Nat → Nat} {j : Nat} : ∀ {i : Nat}, (∀ c, 1 ≤ c → c ≤ i → K c = 5 → C c ≤ j) → ss_ow K C j i = ss_fd K i
  | 0, _ => rfl
  | i + 1, h => by
    have := ss_ow_all (K := K) (C := C) (j := j) (i := i) (fun c h1 hc => h c h1 (by omega))
    show ss_ow K C j i + (if K (i + 1) = 5 ∧ C (i + 1) ≤ j then 1 else 0) = ss_fd K i + (if K (i + 1) = 5 then 1 else 0)
    by_cases h5 : K (i + 1) = 5
    · rw [if_pos h5, if_pos ⟨h5, h (i + 1) (by omega) (Nat.le_refl _) h5⟩, this]
    · rw [if_neg h5, if_neg (fun z => h5 z.1), this]
/-- beyond the functions that were open before variable j, none counts -/
theorem ss_ow_cut {K : Nat → Int32} {C : Nat → Nat} {j c : Nat} : ∀ {i : Nat}, c ≤ i → (∀ d, c < d → d ≤ i → K d = 5 → j < C d) → ss_ow K C j i = ss_ow K C j c
  | 0, h, _ => by have : c = 0 := by omega
                  subst this; rfl
  | i + 1, h, hd => by
    by_cases e : c = i + 1
    · subst e; rfl
    · have := ss_ow_cut (K := K) (C := C) (j := j) (c := c) (i := i) (by omega) (fun d h1 h2 => hd d h1 (by omega))
      show ss_ow K C j i + (if K (i + 1) = 5 ∧ C (i + 1) ≤ j then 1 else 0) = _
      rw [if_neg (fun z => by have := hd (i + 1) (by omega) (Nat.le_refl _) z.1; omega), this]; rfl
theorem ss_ls_le (N : Nat → Int32) (x : Int32) : ∀ j, ss_ls N x j ≤ j
  | 0 => Nat.le_refl 0
  | j + 1 => by
    have := ss_ls_le N x j
    unfold ss_ls
    split <;> omega
theorem ss_ls_at (N : Nat → Int32) (x : Int32) : ∀ j, ss_ls N x j ≠ 0 → N (ss_ls N x j - 1) = x
  | 0, h => absurd rfl h
  | j + 1, h => by
    by_cases e : N j = x
    · have : ss_ls N x (j + 1) = j + 1 := by
        show (if N j = x then j + 1 else ss_ls N x j) = _
        rw [if_pos e]
      rw [this]; exact e
    · have : ss_ls N x (j + 1) = ss_ls N x j := by
        show (if N j = x then j + 1 else ss_ls N x j) = _
        rw [if_neg e]
      rw [this] at h ⊢; exact ss_ls_at N x j h
theorem ss_ls_cg {N N' : Nat → Int32} {x : Int32} : ∀ {j : Nat}, (∀ c, c < j → N c = N' c) → ss_ls N x j = ss_ls N' x j
  | 0, _ => rfl
  | j + 1, h => by
    unfold ss_ls
    rw [h j (by omega), ss_ls_cg (j := j) (fun c hc => h c (by omega))]
theorem ss_ls_no {N : Nat → Int32} {x : Int32} : ∀ {j c : Nat}, ss_ls N x j ≤ c → c < j → N c ≠ x
  | 0, c, _, h => by omega
  | j + 1, c, h1, h2 => by
    by_cases e : N j = x
    · have : ss_ls N x (j + 1) = j + 1 := by
        show (if N j = x then j + 1 else ss_ls N x j) = _
        rw [if_pos e]
      omega
    · have h3 : ss_ls N x (j + 1) = ss_ls N x j := by
        show (if N j = x then j + 1 else ss_ls N x j) = _
        rw [if_neg e]
      by_cases d : c = j
      · subst d; exact e
      · exact ss_ls_no (j := j) (by omega) (by omega)
/-- if the place found lies below m, the names below m find it too -/
theorem ss_ls_cut {N : Nat → Int32} {x : Int32} {m : Nat} : ∀ {j : Nat}, m ≤ j → ss_ls N x j ≤ m → ss_ls N x m = ss_ls N x j
  | 0, h, _ => by have : m = 0 := by omega
                  subst this; rfl
  | j + 1, h, hl => by
    by_cases e : m = j + 1
    · subst e; rfl
    · have h3 : ss_ls N x (j + 1) = ss_ls N x j := by
        show (if N j = x then j + 1 else ss_ls N x j) = _
        rw [if_neg (ss_ls_no (j := j + 1) (c := j) (by omega) (by omega))]
      rw [h3] at hl ⊢
      exact ss_ls_cut (j := j) (by omega) hl
theorem ss_lx_le (K : Nat → Int32) : ∀ i, ss_lx K i ≤ i
  | 0 => Nat.le_refl 0
  | i + 1 => by
    have := ss_lx_le K i
    unfold ss_lx
    split
    · omega
    · split <;> omega
theorem ss_lx_at (K : Nat → Int32) : ∀ i, ss_lx K i ≠ 0 → K (ss_lx K i) = 3 ∧ ss_fx K i < ss_lx K i ∧ ∀ c, ss_lx K i < c → c ≤ i → K c ≠ 3
  | 0, h => absurd rfl h
  | i + 1, h => by
    by_cases h5 : K (i + 1) = 5
    · have : ss_lx K (i + 1) = 0 := by
        show (if K (i + 1) = 5 then 0 else if K (i + 1) = 3 then i + 1 else ss_lx K i) = _
        rw [if_pos h5]
      exact absurd this h
    · by_cases h3 : K (i + 1) = 3
      · have e : ss_lx K (i + 1) = i + 1 := by
          show (if K (i + 1) = 5 then 0 else if K (i + 1) = 3 then i + 1 else ss_lx K i) = _
          rw [if_neg h5, if_pos h3]
        rw [e, ss_fx_sn h5]
        have := ss_fx_le K i
        exact ⟨h3, by omega, fun c h1 h2 => by omega⟩
      · have e : ss_lx K (i + 1) = ss_lx K i := by
          show (if K (i + 1) = 5 then 0 else if K (i + 1) = 3 then i + 1 else ss_lx K i) = _
          rw [if_neg h5, if_neg h3]
        rw [e] at h ⊢
        have ih := ss_lx_at K i h
        rw [ss_fx_sn h5]
        refine ⟨ih.1, ih.2.1, fun c h1 h2 => ?_⟩
        by_cases d : c = i + 1
        · subst d; exact h3
        · exact ih.2.2 c h1 (by omega)
theorem ss_lx_0 (K : Nat → Int32) : ∀ i, ss_lx K i = 0 → ∀ c, ss_fx K i < c → c ≤ i → K c ≠ 3
  | 0, _, c, h1, h2 => by omega
  | i + 1, h, c, h1, h2 => by
    have u : ss_lx K (i + 1) = (if K (i + 1) = 5 then 0 else if K (i + 1) = 3 then i + 1 else ss_lx K i) := rfl
    by_cases h5 : K (i + 1) = 5
    · rw [ss_fx_s5 h5] at h1; omega
    · rw [if_neg h5] at u
      by_cases h3 : K (i + 1) = 3
      · rw [if_pos h3] at u; omega
      · rw [if_neg h3] at u
        rw [ss_fx_sn h5] at h1
        by_cases d : c = i + 1
        · subst d; exact h3
        · exact ss_lx_0 K i (by omega) c h1 (by omega)
end
section
/-! what reading keeps -/
def ss_I (p : Nat) (s : ss_T) : Prop :=
  ss_O s ≤ 10 ∧ ss_F s ≤ 16 ∧ ss_K s 0 = 0 ∧ ss_C s 0 = 0 ∧
  (∀ i, i ≤ ss_O s → (i = 0 ∨ ss_K s i = 5) → ss_P s i ≤ 6) ∧
  (∀ i j, i < j → j ≤ ss_O s → (i = 0 ∨ ss_K s i = 5) → ss_K s j = 5 → ss_P s i ≤ 5) ∧
  (∀ i, 1 ≤ i → i ≤ ss_O s → ss_W s i < p ∧ ss_C s i ≤ ss_V s ∧ (ss_K s i = 5 → ss_C s i + 1 ≤ ss_V s) ∧ ss_C s i ≤ ss_C s (ss_fx (ss_K s) (i - 1)) + 8) ∧
  (∀ i j, 1 ≤ i → i < j → j ≤ ss_O s → ss_W s i < ss_W s j ∧ ss_C s i ≤ ss_C s j ∧ (ss_K s i = 5 → ss_C s i + 1 ≤ ss_C s j)) ∧
  ss_V s ≤ ss_C s (ss_f s) + 8
theorem ss_I_0 : ss_I 0 ss_0 := by
  refine ⟨Nat.zero_le _, Nat.zero_le _, rfl, rfl, fun i _ _ => Nat.zero_le _, fun i j _ _ _ _ => Nat.zero_le _, ?_, ?_, Nat.zero_le _⟩
  · intro i h1 h2
    have : i ≤ 0 := h2
    omega
  · intro i j h1 h2 h3
    have : j ≤ 0 := h3
    omega
theorem ss_f_le (s : ss_T) : ss_f s ≤ ss_O s := ss_fx_le _ _
theorem ss_I_smp {p q : Nat} {s : ss_T} (h : ss_I p s) (hq : q ≤ 6) : ss_I (p + 1) (ss_smp s q) := by
  obtain ⟨h1, h2, h3, h4, h5, h6, h7, h8, h9⟩ := h
  refine ⟨h1, h2, h3, h4, ?_, ?_, ?_, h8, h9⟩
  · intro i hi hk
    show uv_st (ss_P s) (ss_f s) q i ≤ 6
    by_cases e : i = ss_f s
    · rw [e, uv_se]; exact hq
    · rw [uv_sn e]; exact h5 i hi hk
  · intro i j hij hj hk h5j
    show uv_st (ss_P s) (ss_f s) q i ≤ 5
    have hj' : j ≤ ss_O s := hj
    have hjf : j ≤ ss_f s := ss_fx_ge _ _ j (by omega) hj' h5j
    rw [uv_sn (by omega)]; exact h6 i j hij hj hk h5j
  · intro i hi1 hi2
    obtain ⟨a, b⟩ := h7 i hi1 hi2
    exact ⟨Nat.lt_succ_of_lt a, b⟩
theorem ss_I_dcl {p : Nat} {s : ss_T} {a : Int32} (h : ss_I p s) (hq : ss_L s < 8) : ss_I (p + 1) (ss_dcl s a) := by
  obtain ⟨h1, h2, h3, h4, h5, h6, h7, h8, h9⟩ := h
  refine ⟨h1, h2, h3, h4, ?_, ?_, ?_, h8, ?_⟩
  · intro i hi hk
    show uv_st (ss_P s) (ss_f s) 0 i ≤ 6
    by_cases e : i = ss_f s
    · rw [e, uv_se]; omega
    · rw [uv_sn e]; exact h5 i hi hk
  · intro i j hij hj hk h5j
    show uv_st (ss_P s) (ss_f s) 0 i ≤ 5
    have hj' : j ≤ ss_O s := hj
    have hjf : j ≤ ss_f s := ss_fx_ge _ _ j (by omega) hj' h5j
    rw [uv_sn (by omega)]; exact h6 i j hij hj hk h5j
  · intro i hi1 hi2
    obtain ⟨a, b, c, d⟩ := h7 i hi1 hi2
    exact ⟨Nat.lt_succ_of_lt a, Nat.le_succ_of_le b, fun z => Nat.le_succ_of_le (c z), d⟩
  · show ss_V s + 1 ≤ ss_C s (ss_f s) + 8
    have : ss_V s - ss_C s (ss_f s) < 8 := hq
    omega
/-- C is below V at the function too -/
theorem ss_I_cf {p : Nat} {s : ss_T} (h : ss_I p s) : ss_C s (ss_f s) ≤ ss_V s := by
  obtain ⟨h1, h2, h3, h4, h5, h6, h7, h8, h9⟩ := h
  rcases ss_fx_k (ss_K s) (ss_O s) with e | e
  · have : ss_f s = 0 := e
    rw [this, h4]; omega
  · exact (h7 _ e.1 (ss_fx_le _ _)).2.1
theorem ss_I_fun {p : Nat} {s : ss_T} {a : Int32} (h : ss_I p s) (hq : ss_Q s < 6) (ho : ss_O s < 10) (hf : ss_F s < 16) : ss_I (p + 1) (ss_fun s p a) := by
  obtain ⟨h1, h2, h3, h4, h5, h6, h7, h8, h9⟩ := h
  have eK : ∀ c, c ≤ ss_O s → uv_st (ss_K s) (ss_O s + 1) 5 c = ss_K s c := fun c hc => uv_sn (by omega)
  have eC : ∀ c, c ≤ ss_O s → uv_st (ss_C s) (ss_O s + 1) (ss_V s) c = ss_C s c := fun c hc => uv_sn (by omega)
  have eW : ∀ c, c ≤ ss_O s → uv_st (ss_W s) (ss_O s + 1) p c = ss_W s c := fun c hc => uv_sn (by omega)
  have eP : ∀ c, c ≤ ss_O s → uv_st (ss_P s) (ss_O s + 1) 0 c = ss_P s c := fun c hc => uv_sn (by omega)
  have ef : ∀ c, c ≤ ss_O s → ss_fx (uv_st (ss_K s) (ss_O s + 1) 5) c = ss_fx (ss_K s) c := fun c hc => ss_fx_cg (fun d hd => eK d (by omega))
  have eF : ss_f (ss_fun s p a) = ss_O s + 1 := ss_fx_s5 uv_se
  refine ⟨ho, hf, ?_, ?_, ?_, ?_, ?_, ?_, ?_⟩
  · rw [ss_fun_K, eK 0 (by omega)]; exact h3
  · rw [ss_fun_C, eC 0 (by omega)]; exact h4
  · intro i hi hk
    rw [ss_fun_O] at hi
    rw [ss_fun_K] at hk
    rw [ss_fun_P]
    by_cases e : i = ss_O s + 1
    · rw [e, uv_se]; omega
    · rw [eK i (by omega)] at hk
      rw [eP i (by omega)]; exact h5 i (by omega) hk
  · intro i j hij hj hk h5j
    rw [ss_fun_O] at hj
    rw [ss_fun_K] at hk h5j
    rw [ss_fun_P, eP i (by omega)]
    rw [eK i (by omega)] at hk
    by_cases e : j = ss_O s + 1
    · by_cases e2 : i = ss_f s
      · have : ss_P s i = ss_Q s := by rw [e2]; rfl
        omega
      · have hif : i < ss_f s := by
          rcases hk with z | z
          · omega
          · have := ss_fx_ge (ss_K s) (ss_O s) i
            by_cases z1 : 1 ≤ i
            · have := this z1 (by omega) z
              have e3 : ss_f s = ss_fx (ss_K s) (ss_O s) := rfl
              omega
            · omega
        have hfp := ss_fx_k (ss_K s) (ss_O s)
        have e3 : ss_f s = ss_fx (ss_K s) (ss_O s) := rfl
        rw [← e3] at hfp
        exact h6 i (ss_f s) hif (ss_f_le s) hk (by rcases hfp with z | z; · omega
                                                   · exact z.2)
    · rw [eK j (by omega)] at h5j
      exact h6 i j hij (by omega) hk h5j
  · intro i hi1 hi2
    rw [ss_fun_O] at hi2
    rw [ss_fun_W, ss_fun_C, ss_fun_V, ss_fun_K, ef (i - 1) (by omega)]
    have hfl := ss_fx_le (ss_K s) (i - 1)
    rw [eC (ss_fx (ss_K s) (i - 1)) (by omega)]
    by_cases e : i = ss_O s + 1
    · rw [e, uv_se, uv_se, uv_se]
      refine ⟨by omega, by omega, fun _ => by omega, ?_⟩
      exact h9
    · rw [eW i (by omega), eC i (by omega), eK i (by omega)]
      obtain ⟨a, b, c, d⟩ := h7 i hi1 (by omega)
      exact ⟨by omega, by omega, fun z => by have := c z; omega, d⟩
  · intro i j hi1 hij hj
    rw [ss_fun_O] at hj
    rw [ss_fun_W, ss_fun_C, ss_fun_K, eW i (by omega), eC i (by omega), eK i (by omega)]
    by_cases e : j = ss_O s + 1
    · rw [e, uv_se, uv_se]
      obtain ⟨a, b, c, d⟩ := h7 i hi1 (by omega)
      exact ⟨a, b, c⟩
    · rw [eW j (by omega), eC j (by omega)]
      exact h8 i j hi1 hij (by omega)
  · rw [eF, ss_fun_V, ss_fun_C, uv_se]; omega
theorem ss_I_blk {p : Nat} {s : ss_T} {a : Int32} (h : ss_I p s) (ho : ss_O s < 10) (ha : a ≠ 5) : ss_I (p + 1) (ss_blk s p a) := by
  obtain ⟨h1, h2, h3, h4, h5, h6, h7, h8, h9⟩ := h
  have eK : ∀ c, c ≤ ss_O s → uv_st (ss_K s) (ss_O s + 1) a c = ss_K s c := fun c hc => uv_sn (by omega)
  have eC : ∀ c, c ≤ ss_O s → uv_st (ss_C s) (ss_O s + 1) (ss_V s) c = ss_C s c := fun c hc => uv_sn (by omega)
  have eW : ∀ c, c ≤ ss_O s → uv_st (ss_W s) (ss_O s + 1) p c = ss_W s c := fun c hc => uv_sn (by omega)
  have eP : ∀ c, c ≤ ss_O s → uv_st (uv_st (ss_P s) (ss_f s) 0) (ss_O s + 1) 0 c = uv_st (ss_P s) (ss_f s) 0 c := fun c hc => uv_sn (by omega)
  have ef : ∀ c, c ≤ ss_O s → ss_fx (uv_st (ss_K s) (ss_O s + 1) a) c = ss_fx (ss_K s) c := fun c hc => ss_fx_cg (fun d hd => eK d (by omega))
  have k1 : uv_st (ss_K s) (ss_O s + 1) a (ss_O s + 1) ≠ 5 := by rw [uv_se]; exact ha
  have eF : ss_f (ss_blk s p a) = ss_f s := by
    show ss_fx (uv_st (ss_K s) (ss_O s + 1) a) (ss_O s + 1) = ss_fx (ss_K s) (ss_O s)
    rw [ss_fx_sn k1, ef _ (Nat.le_refl _)]
  refine ⟨ho, h2, ?_, ?_, ?_, ?_, ?_, ?_, ?_⟩
  · rw [ss_blk_K, eK 0 (by omega)]; exact h3
  · rw [ss_blk_C, eC 0 (by omega)]; exact h4
  · intro i hi hk
    rw [ss_blk_O] at hi
    rw [ss_blk_K] at hk
    rw [ss_blk_P]
    by_cases e : i = ss_O s + 1
    · rw [e, uv_se]; omega
    · rw [eK i (by omega)] at hk
      rw [eP i (by omega)]
      by_cases e2 : i = ss_f s
      · rw [e2, uv_se]; omega
      · rw [uv_sn e2]; exact h5 i (by omega) hk
  · intro i j hij hj hk h5j
    rw [ss_blk_O] at hj
    rw [ss_blk_K] at hk h5j
    rw [ss_blk_P, eP i (by omega)]
    rw [eK i (by omega)] at hk
    by_cases e : j = ss_O s + 1
    · rw [e] at h5j; exact absurd h5j k1
    · rw [eK j (by omega)] at h5j
      have hjf : j ≤ ss_f s := ss_fx_ge _ _ j (by omega) (by omega) h5j
      rw [uv_sn (by omega)]
      exact h6 i j hij (by omega) hk h5j
  · intro i hi1 hi2
    rw [ss_blk_O] at hi2
    rw [ss_blk_W, ss_blk_C, ss_blk_V, ss_blk_K, ef (i - 1) (by omega)]
    have hfl := ss_fx_le (ss_K s) (i - 1)
    rw [eC (ss_fx (ss_K s) (i - 1)) (by omega)]
    by_cases e : i = ss_O s + 1
    · rw [e, uv_se, uv_se, uv_se]
      refine ⟨by omega, by omega, fun z => absurd z ha, ?_⟩
      exact h9
    · rw [eW i (by omega), eC i (by omega), eK i (by omega)]
      obtain ⟨a, b, c, d⟩ := h7 i hi1 (by omega)
      exact ⟨by omega, b, c, d⟩
  · intro i j hi1 hij hj
    rw [ss_blk_O] at hj
    rw [ss_blk_W, ss_blk_C, ss_blk_K, eW i (by omega), eC i (by omega), eK i (by omega)]
    by_cases e : j = ss_O s + 1
    · rw [e, uv_se, uv_se]
      obtain ⟨a, b, c, d⟩ := h7 i hi1 (by omega)
      exact ⟨a, b, c⟩
    · rw [eW j (by omega), eC j (by omega)]
      exact h8 i j hi1 hij (by omega)
  · rw [eF, ss_blk_V, ss_blk_C, eC _ (ss_f_le s)]; exact h9
theorem ss_I_els {p : Nat} {s : ss_T} (h : ss_I p s) (ho : 1 ≤ ss_O s) (hk2 : ss_K s (ss_O s) = 2) : ss_I (p + 1) (ss_els s p) := by
  obtain ⟨h1, h2, h3, h4, h5, h6, h7, h8, h9⟩ := h
  have eK : ∀ c, c ≠ ss_O s → uv_st (ss_K s) (ss_O s) 4 c = ss_K s c := fun c hc => uv_sn hc
  have eW : ∀ c, c ≠ ss_O s → uv_st (ss_W s) (ss_O s) p c = ss_W s c := fun c hc => uv_sn hc
  have k2 : ss_K s (ss_O s) ≠ 5 := by rw [hk2]; decide
  have e5 : ∀ c, uv_st (ss_K s) (ss_O s) 4 c = 5 → c ≠ ss_O s ∧ ss_K s c = 5 := fun c hc => by
    by_cases e : c = ss_O s
    · rw [e, uv_se] at hc; exact absurd hc (by decide)
    · rw [eK c e] at hc; exact ⟨e, hc⟩
  have ef1 : ∀ c, c < ss_O s → ss_fx (uv_st (ss_K s) (ss_O s) 4) c = ss_fx (ss_K s) c := fun c hc => ss_fx_cg (fun d hd => eK d (by omega))
  obtain ⟨o, ho'⟩ : ∃ o, ss_O s = o + 1 := ⟨ss_O s - 1, by omega⟩
  have eF : ss_f (ss_els s p) = ss_fx (ss_K s) o := by
    show ss_fx (uv_st (ss_K s) (ss_O s) 4) (ss_O s) = _
    rw [← ef1 o (by omega)]
    have : uv_st (ss_K s) (ss_O s) 4 (o + 1) ≠ 5 := by rw [← ho', uv_se]; decide
    rw [← ss_fx_sn this, ← ho']
  refine ⟨h1, h2, ?_, h4, ?_, ?_, ?_, ?_, ?_⟩
  · rw [ss_els_K, eK 0 (by omega)]; exact h3
  · intro i hi hk
    rw [ss_els_K] at hk
    refine h5 i hi ?_
    rcases hk with z | z
    · exact Or.inl z
    · exact Or.inr (e5 i z).2
  · intro i j hij hj hk h5j
    rw [ss_els_K] at hk h5j
    refine h6 i j hij hj ?_ (e5 j h5j).2
    rcases hk with z | z
    · exact Or.inl z
    · exact Or.inr (e5 i z).2
  · intro i hi1 hi2
    rw [ss_els_O] at hi2
    rw [ss_els_W, ss_els_C, ss_els_V, ss_els_K, ef1 (i - 1) (by omega)]
    obtain ⟨a, b, c, d⟩ := h7 i hi1 hi2
    by_cases e : i = ss_O s
    · rw [e] at d
      rw [e, uv_se, uv_se]
      exact ⟨by omega, by omega, fun z => absurd z (by decide), d⟩
    · rw [eW i e, eK i e]
      obtain ⟨a', b', c'⟩ := h8 i (ss_O s) hi1 (by omega) (Nat.le_refl _)
      exact ⟨by omega, b', c', d⟩
  · intro i j hi1 hij hj
    rw [ss_els_O] at hj
    rw [ss_els_W, ss_els_C, ss_els_K, eW i (by omega), eK i (by omega)]
    obtain ⟨a', b', c'⟩ := h8 i j hi1 hij hj
    by_cases e : j = ss_O s
    · rw [e, uv_se]
      rw [e] at b' c'
      exact ⟨(h7 i hi1 (by omega)).1, b', c'⟩
    · rw [eW j e]; exact ⟨a', b', c'⟩
  · rw [eF, ss_els_V, ss_els_C]
    have := (h7 (ss_O s) ho (Nat.le_refl _)).2.2.2
    have e : ss_O s - 1 = o := by omega
    rw [e] at this; exact this
theorem ss_I_enb {p : Nat} {s : ss_T} (h : ss_I p s) (ho : 1 ≤ ss_O s) : ss_I (p + 1) (ss_enb s) := by
  obtain ⟨h1, h2, h3, h4, h5, h6, h7, h8, h9⟩ := h
  refine ⟨?_, h2, h3, h4, ?_, ?_, ?_, ?_, ?_⟩
  · rw [ss_enb_O]; omega
  · intro i hi hk
    rw [ss_enb_O] at hi
    exact h5 i (by omega) hk
  · intro i j hij hj hk h5j
    rw [ss_enb_O] at hj
    exact h6 i j hij (by omega) hk h5j
  · intro i hi1 hi2
    rw [ss_enb_O] at hi2
    obtain ⟨a, b, c, d⟩ := h7 i hi1 (by omega)
    obtain ⟨a', b', c'⟩ := h8 i (ss_O s) hi1 (by omega) (Nat.le_refl _)
    exact ⟨Nat.lt_succ_of_lt a, b', c', d⟩
  · intro i j hi1 hij hj
    rw [ss_enb_O] at hj
    exact h8 i j hi1 hij (by omega)
  · exact (h7 (ss_O s) ho (Nat.le_refl _)).2.2.2
theorem ss_I_enf {p : Nat} {s : ss_T} (h : ss_I p s) (ho : 1 ≤ ss_O s) (hk5 : ss_K s (ss_O s) = 5) : ss_I (p + 1) (ss_enf s) := by
  have hb := ss_I_enb h ho
  obtain ⟨h1, h2, h3, h4, h5, h6, h7, h8, h9⟩ := h
  obtain ⟨g1, g2, g3, g4, g5, g6, g7, g8, g9⟩ := hb
  have hf' := ss_fx_le (ss_K s) (ss_O s - 1)
  have hfk := ss_fx_k (ss_K s) (ss_O s - 1)
  refine ⟨g1, g2, g3, g4, ?_, ?_, g7, g8, g9⟩
  · intro i hi hk
    rw [ss_enf_P]
    by_cases e : i = ss_fx (ss_K s) (ss_O s - 1)
    · rw [e, uv_se]
      have := h6 (ss_fx (ss_K s) (ss_O s - 1)) (ss_O s) (by omega) (Nat.le_refl _) (by rcases hfk with z | z; · exact Or.inl z
                                                                                       · exact Or.inr z.2) hk5
      omega
    · rw [uv_sn e]; exact g5 i hi hk
  · intro i j hij hj hk h5j
    rw [ss_enf_P]
    have hj' : j ≤ ss_O s - 1 := hj
    have := ss_fx_ge (ss_K s) (ss_O s - 1) j (by omega) hj' h5j
    rw [uv_sn (by omega)]; exact g6 i j hij hj hk h5j
theorem ss_I_R {k a : Int32} {p : Nat} {s t : ss_T} (h : ss_I p s) (r : ss_R k a p s t) : ss_I (p + 1) t := by
  rcases r with ⟨_, h1, rfl⟩ | ⟨_, _, _, h1, rfl⟩ | ⟨_, _, h1, rfl⟩ | ⟨_, h1, rfl⟩ | ⟨_, _, h1, h2, h3, rfl⟩ | ⟨_, _, _, h1, rfl⟩ | ⟨_, _, _, _, rfl⟩ | ⟨_, _, _, _, rfl⟩ | ⟨_, ha, _, h1, rfl⟩ | ⟨_, _, h1, h2, _, rfl⟩ | ⟨_, h1, _, ⟨h2, rfl⟩ | ⟨h2, rfl⟩⟩
  · exact ss_I_smp h (by omega)
  · exact ss_I_smp h (by omega)
  · exact ss_I_smp h (by
      have : ss_Q s ≤ 6 := h.2.2.2.2.1 _ (ss_f_le s) (by rcases ss_fx_k (ss_K s) (ss_O s) with z | z; · exact Or.inl z
                                                         · exact Or.inr z.2)
      omega)
  · exact ss_I_smp h (by
      have : ss_Q s ≤ 6 := h.2.2.2.2.1 _ (ss_f_le s) (by rcases ss_fx_k (ss_K s) (ss_O s) with z | z; · exact Or.inl z
                                                         · exact Or.inr z.2)
      omega)
  · exact ss_I_fun h h1 h2 h3
  · exact ss_I_dcl h h1
  · exact ss_I_smp h (by omega)
  · exact ss_I_smp h (by omega)
  · exact ss_I_blk h h1 (by rcases ha with z | z | z <;> rw [z] <;> decide)
  · exact ss_I_els h h1 h2
  · exact ss_I_enf h h1 h2
  · exact ss_I_enb h h1
theorem ss_I_S {k a : Nat → Int32} {n : Nat} {S : Nat → ss_T} (h : ss_S k a n S) : ∀ p, p ≤ n → ss_I p (S p)
  | 0, _ => by rw [h.1]; exact ss_I_0
  | p + 1, hp => ss_I_R (ss_I_S h p (by omega)) (h.2 p (by omega))
theorem ss_Q6 {p : Nat} {s : ss_T} (h : ss_I p s) : ss_Q s ≤ 6 := h.2.2.2.2.1 _ (ss_f_le s) (by
  rcases ss_fx_k (ss_K s) (ss_O s) with z | z
  · exact Or.inl z
  · exact Or.inr z.2)
theorem ss_L8 {p : Nat} {s : ss_T} (h : ss_I p s) : ss_L s ≤ 8 := by
  have := h.2.2.2.2.2.2.2.2
  unfold ss_L; omega
theorem ss_C88 {p : Nat} {s : ss_T} (h : ss_I p s) : ∀ i, i ≤ ss_O s → (i = 0 ∨ ss_K s i = 5) → ss_C s i ≤ 8 * ss_fd (ss_K s) i := by
  intro i
  induction i using Nat.strongRecOn with
  | ind i ih =>
    intro hi hk
    rcases Nat.eq_zero_or_pos i with z | z
    · rw [z, h.2.2.2.1]; omega
    · have h5 : ss_K s i = 5 := by
        rcases hk with q | q
        · omega
        · exact q
      obtain ⟨q, rfl⟩ : ∃ q, i = q + 1 := ⟨i - 1, by omega⟩
      have h7 := (h.2.2.2.2.2.2.1 (q + 1) z hi).2.2.2
      rw [Nat.add_sub_cancel] at h7
      have hl := ss_fx_le (ss_K s) q
      have hf := ss_fx_k (ss_K s) q
      have := ih (ss_fx (ss_K s) q) (by omega) (by omega) (by rcases hf with w | w; · exact Or.inl w
                                                              · exact Or.inr w.2)
      rw [ss_fd_fx] at this
      rw [ss_fd_s5 h5]; omega
theorem ss_V88 {p : Nat} {s : ss_T} (h : ss_I p s) : ss_V s ≤ 88 := by
  have h9 := h.2.2.2.2.2.2.2.2
  have hf := ss_fx_k (ss_K s) (ss_O s)
  have := ss_C88 h (ss_f s) (ss_f_le s) (by rcases hf with w | w; · exact Or.inl w
                                            · exact Or.inr w.2)
  have e : ss_fd (ss_K s) (ss_f s) = ss_fd (ss_K s) (ss_O s) := ss_fd_fx _ _
  rw [e] at this
  have h10 := ss_fd_le (ss_K s) (ss_O s)
  have h11 := h.1
  omega
end
section
/-! a construct that is open at p: what stood right behind its first word -/
def ss_pre (S : Nat → ss_T) (p i : Nat) : Prop :=
  ss_W (S p) i < p ∧ ss_O (S (ss_W (S p) i + 1)) = i ∧
  (∀ c, c ≤ i → ss_K (S (ss_W (S p) i + 1)) c = ss_K (S p) c ∧ ss_W (S (ss_W (S p) i + 1)) c = ss_W (S p) c ∧ ss_C (S (ss_W (S p) i + 1)) c = ss_C (S p) c) ∧
  ss_V (S (ss_W (S p) i + 1)) = ss_C (S p) i + (if ss_K (S p) i = 5 then 1 else 0) ∧
  (∀ j, j < ss_C (S p) i + (if ss_K (S p) i = 5 then 1 else 0) → ss_N (S (ss_W (S p) i + 1)) j = ss_N (S p) j) ∧
  (ss_K (S p) i = 5 → ∀ c, c < i → ss_P (S (ss_W (S p) i + 1)) c = ss_P (S p) c)
/-- the words w and the rest, for a pair of states that agree up to i -/
theorem ss_pre_mono {S : Nat → ss_T} {p i : Nat} (h : ss_pre S p i)
    (hK : ∀ c, c ≤ i → ss_K (S (p + 1)) c = ss_K (S p) c) (hW : ∀ c, c ≤ i → ss_W (S (p + 1)) c = ss_W (S p) c) (hC : ∀ c, c ≤ i → ss_C (S (p + 1)) c = ss_C (S p) c)
    (hN : ∀ j, j < ss_C (S p) i + (if ss_K (S p) i = 5 then 1 else 0) → ss_N (S (p + 1)) j = ss_N (S p) j)
    (hP : ss_K (S p) i = 5 → ∀ c, c < i → ss_P (S (p + 1)) c = ss_P (S p) c) : ss_pre S (p + 1) i := by
  obtain ⟨h1, h2, h3, h4, h5, h6⟩ := h
  unfold ss_pre
  rw [hW i (Nat.le_refl _), hK i (Nat.le_refl _), hC i (Nat.le_refl _)]
  refine ⟨by omega, h2, fun c hc => ?_, h4, fun j hj => ?_, fun h5' c hc => ?_⟩
  · rw [hK c hc, hW c hc, hC c hc]; exact h3 c hc
  · rw [hN j hj]; exact h5 j hj
  · rw [hP h5' c hc]; exact h6 h5' c hc
theorem ss_pre_new {S : Nat → ss_T} {p i : Nat} (hW : ss_W (S (p + 1)) i = p) (hO : ss_O (S (p + 1)) = i)
    (hV : ss_V (S (p + 1)) = ss_C (S (p + 1)) i + (if ss_K (S (p + 1)) i = 5 then 1 else 0)) : ss_pre S (p + 1) i := by
  unfold ss_pre
  rw [hW]
  exact ⟨by omega, hO, fun c _ => ⟨rfl, rfl, rfl⟩, hV, fun j _ => rfl, fun _ c _ => rfl⟩
theorem ss_cv {p i : Nat} {s : ss_T} (h : ss_I p s) (h1 : 1 ≤ i) (h2 : i ≤ ss_O s) : ss_C s i + (if ss_K s i = 5 then 1 else 0) ≤ ss_V s := by
  obtain ⟨_, b, c, _⟩ := h.2.2.2.2.2.2.1 i h1 h2
  by_cases e : ss_K s i = 5
  · rw [if_pos e]; exact c e
  · rw [if_neg e]; exact b
theorem ss_cc {p i j : Nat} {s : ss_T} (h : ss_I p s) (h1 : 1 ≤ i) (hij : i < j) (h2 : j ≤ ss_O s) : ss_C s i + (if ss_K s i = 5 then 1 else 0) ≤ ss_C s j := by
  obtain ⟨_, b, c⟩ := h.2.2.2.2.2.2.2.1 i j h1 hij h2
  by_cases e : ss_K s i = 5
  · rw [if_pos e]; exact c e
  · rw [if_neg e]; exact b
theorem ss_fge {s : ss_T} {i : Nat} (h1 : 1 ≤ i) (h2 : i ≤ ss_O s) (h5 : ss_K s i = 5) : i ≤ ss_f s := ss_fx_ge _ _ i h1 h2 h5
theorem ss_preS {k a : Nat → Int32} {n : Nat} {S : Nat → ss_T} (h : ss_S k a n S) : ∀ p, p ≤ n → ∀ i, 1 ≤ i → i ≤ ss_O (S p) → ss_pre S p i := by
  intro p
  induction p with
  | zero =>
    intro _ i h1 h2
    rw [h.1] at h2
    have : i ≤ 0 := h2
    omega
  | succ p ih =>
    intro hp i h1 h2
    have ih' := ih (by omega)
    have hI := ss_I_S h p (by omega)
    have smp : ∀ q, S (p + 1) = ss_smp (S p) q → ss_pre S (p + 1) i := by
      intro q e
      rw [e] at h2
      refine ss_pre_mono (ih' i h1 h2) ?_ ?_ ?_ ?_ ?_
      · intro c _; rw [e]; rfl
      · intro c _; rw [e]; rfl
      · intro c _; rw [e]; rfl
      · intro c _; rw [e]; rfl
      · intro h5 c hc
        rw [e, ss_smp_P]
        have := ss_fge (s := S p) h1 h2 h5
        exact uv_sn (by omega)
    rcases h.2 p (by omega) with ⟨_, _, e⟩ | ⟨_, _, _, _, e⟩ | ⟨_, _, _, e⟩ | ⟨_, _, e⟩ | ⟨_, _, _, _, _, e⟩ | ⟨_, _, _, _, e⟩ | ⟨_, _, _, _, e⟩ | ⟨_, _, _, _, e⟩ | ⟨_, ha, _, _, e⟩ | ⟨_, _, ho, hk, _, e⟩ | ⟨_, ho, _, ⟨hk, e⟩ | ⟨hk, e⟩⟩
    · exact smp _ e
    · exact smp _ e
    · exact smp _ e
    · exact smp _ e
    · by_cases d : i = ss_O (S p) + 1
      · refine ss_pre_new ?_ ?_ ?_
        · rw [e, ss_fun_W, d, uv_se]
        · rw [e, ss_fun_O, d]
        · rw [e, ss_fun_V, ss_fun_C, ss_fun_K, d, uv_se, uv_se, if_pos rfl]
      · rw [e, ss_fun_O] at h2
        refine ss_pre_mono (ih' i h1 (by omega)) ?_ ?_ ?_ ?_ ?_
        · intro c _; rw [e, ss_fun_K, uv_sn (by omega)]
        · intro c _; rw [e, ss_fun_W, uv_sn (by omega)]
        · intro c _; rw [e, ss_fun_C, uv_sn (by omega)]
        · intro j hj
          have := ss_cv hI h1 (show i ≤ ss_O (S p) by omega)
          rw [e, ss_fun_N, uv_sn (by omega)]
        · intro h5 c hc
          rw [e, ss_fun_P, uv_sn (by omega)]
    · rw [e] at h2
      refine ss_pre_mono (ih' i h1 h2) ?_ ?_ ?_ ?_ ?_
      · intro c _; rw [e]; rfl
      · intro c _; rw [e]; rfl
      · intro c _; rw [e]; rfl
      · intro j hj
        have := ss_cv hI h1 h2
        rw [ss_dcl_O] at h2
        have := ss_cv hI h1 h2
        rw [e, ss_dcl_N, uv_sn (by omega)]
      · intro h5 c hc
        rw [e, ss_dcl_P]
        have := ss_fge (s := S p) h1 h2 h5
        exact uv_sn (by omega)
    · exact smp _ e
    · exact smp _ e
    · have ha5 : a p ≠ 5 := by rcases ha with z | z | z <;> rw [z] <;> decide
      by_cases d : i = ss_O (S p) + 1
      · refine ss_pre_new ?_ ?_ ?_
        · rw [e, ss_blk_W, d, uv_se]
        · rw [e, ss_blk_O, d]
        · rw [e, ss_blk_V, ss_blk_C, ss_blk_K, d, uv_se, uv_se, if_neg ha5]; rfl
      · rw [e, ss_blk_O] at h2
        refine ss_pre_mono (ih' i h1 (by omega)) ?_ ?_ ?_ ?_ ?_
        · intro c _; rw [e, ss_blk_K, uv_sn (by omega)]
        · intro c _; rw [e, ss_blk_W, uv_sn (by omega)]
        · intro c _; rw [e, ss_blk_C, uv_sn (by omega)]
        · intro j hj; rw [e]; rfl
        · intro h5 c hc
          have := ss_fge h1 (show i ≤ ss_O (S p) by omega) h5
          rw [e, ss_blk_P, uv_sn (by omega), uv_sn (by omega)]
    · rw [e, ss_els_O] at h2
      by_cases d : i = ss_O (S p)
      · refine ss_pre_new ?_ ?_ ?_
        · rw [e, ss_els_W, d, uv_se]
        · rw [e, ss_els_O, d]
        · rw [e, ss_els_V, ss_els_C, ss_els_K, d, uv_se, if_neg (by decide)]; rfl
      · refine ss_pre_mono (ih' i h1 h2) ?_ ?_ ?_ ?_ ?_
        · intro c _; rw [e, ss_els_K, uv_sn (by omega)]
        · intro c _; rw [e, ss_els_W, uv_sn (by omega)]
        · intro c _; rw [e]; rfl
        · intro j hj; rw [e]; rfl
        · intro h5 c hc; rw [e]; rfl
    · rw [e, ss_enf_O] at h2
      refine ss_pre_mono (ih' i h1 (by omega)) ?_ ?_ ?_ ?_ ?_
      · intro c _; rw [e]; rfl
      · intro c _; rw [e]; rfl
      · intro c _; rw [e]; rfl
      · intro c _; rw [e]; rfl
      · intro h5 c hc
        have := ss_fx_ge (ss_K (S p)) (ss_O (S p) - 1) i h1 h2 h5
        rw [e, ss_enf_P]
        exact uv_sn (by omega)
    · rw [e, ss_enb_O] at h2
      refine ss_pre_mono (ih' i h1 (by omega)) ?_ ?_ ?_ ?_ ?_
      · intro c _; rw [e]; rfl
      · intro c _; rw [e]; rfl
      · intro c _; rw [e]; rfl
      · intro c _; rw [e]; rfl
      · intro h5 c hc; rw [e]; rfl

/-! open words, closing words -/
/-- w is the first word of construct i, which is open at p -/
def ss_on (S : Nat → ss_T) (p w i : Nat) : Prop := 1 ≤ i ∧ i ≤ ss_O (S p) ∧ ss_W (S p) i = w
/-- word q ends the part that word w began -/
def ss_cl (k : Nat → Int32) (S : Nat → ss_T) (w q : Nat) : Prop := (k q = 9 ∨ k q = 10) ∧ ss_on S q w (ss_O (S q))
theorem ss_on_back {k a : Nat → Int32} {n p w i : Nat} {S : Nat → ss_T} (h : ss_S k a n S) (hp : p < n) (hw : w ≠ p) (o : ss_on S (p + 1) w i) :
    ss_on S p w i ∧ ¬ ((k p = 9 ∨ k p = 10) ∧ i = ss_O (S p)) := by
  obtain ⟨h1, h2, h3⟩ := o
  rcases h.2 p hp with ⟨kk, _, e⟩ | ⟨kk, _, _, _, e⟩ | ⟨kk, _, _, e⟩ | ⟨kk, _, e⟩ | ⟨kk, _, _, _, _, e⟩ | ⟨kk, _, _, _, e⟩ | ⟨kk, _, _, _, e⟩ | ⟨kk, _, _, _, e⟩ | ⟨kk, _, _, _, e⟩ | ⟨kk, _, ho, hk, _, e⟩ | ⟨kk, ho, _, ⟨hk, e⟩ | ⟨hk, e⟩⟩
  · rw [e] at h2 h3
    exact ⟨⟨h1, h2, h3⟩, fun z => by rw [kk] at z; exact absurd z.1 (by decide)⟩
  · rw [e] at h2 h3
    exact ⟨⟨h1, h2, h3⟩, fun z => by rw [kk] at z; exact absurd z.1 (by decide)⟩
  · rw [e] at h2 h3
    exact ⟨⟨h1, h2, h3⟩, fun z => by rw [kk] at z; exact absurd z.1 (by decide)⟩
  · rw [e] at h2 h3
    exact ⟨⟨h1, h2, h3⟩, fun z => by rw [kk] at z; exact absurd z.1 (by decide)⟩
  · rw [e, ss_fun_O] at h2
    rw [e, ss_fun_W] at h3
    refine ⟨?_, fun z => by rw [kk] at z; exact absurd z.1 (by decide)⟩
    by_cases d : i = ss_O (S p) + 1
    · rw [d, uv_se] at h3; omega
    · rw [uv_sn d] at h3; exact ⟨h1, by omega, h3⟩
  · rw [e] at h2 h3
    exact ⟨⟨h1, h2, h3⟩, fun z => by rw [kk] at z; exact absurd z.1 (by decide)⟩
  · rw [e] at h2 h3
    exact ⟨⟨h1, h2, h3⟩, fun z => by rw [kk] at z; exact absurd z.1 (by decide)⟩
  · rw [e] at h2 h3
    exact ⟨⟨h1, h2, h3⟩, fun z => by rw [kk] at z; exact absurd z.1 (by decide)⟩
  · rw [e, ss_blk_O] at h2
    rw [e, ss_blk_W] at h3
    refine ⟨?_, fun z => by rw [kk] at z; exact absurd z.1 (by decide)⟩
    by_cases d : i = ss_O (S p) + 1
    · rw [d, uv_se] at h3; omega
    · rw [uv_sn d] at h3; exact ⟨h1, by omega, h3⟩
  · rw [e, ss_els_O] at h2
    rw [e, ss_els_W] at h3
    by_cases d : i = ss_O (S p)
    · rw [d, uv_se] at h3; omega
    · rw [uv_sn d] at h3; exact ⟨⟨h1, h2, h3⟩, fun z => d z.2⟩
  · rw [e, ss_enf_O] at h2
    rw [e, ss_enf_W] at h3
    exact ⟨⟨h1, by omega, h3⟩, fun z => by omega⟩
  · rw [e, ss_enb_O] at h2
    rw [e, ss_enb_W] at h3
    exact ⟨⟨h1, by omega, h3⟩, fun z => by omega⟩
/-- forward: a construct stays open but for the word that ends it -/
theorem ss_on_fwd {k a : Nat → Int32} {n p w i : Nat} {S : Nat → ss_T} (h : ss_S k a n S) (hp : p < n) (o : ss_on S p w i) :
    ss_on S (p + 1) w i ∨ ((k p = 9 ∨ k p = 10) ∧ i = ss_O (S p)) := by
  obtain ⟨h1, h2, h3⟩ := o
  unfold ss_on
  rcases h.2 p hp with ⟨kk, _, e⟩ | ⟨kk, _, _, _, e⟩ | ⟨kk, _, _, e⟩ | ⟨kk, _, e⟩ | ⟨kk, _, _, _, _, e⟩ | ⟨kk, _, _, _, e⟩ | ⟨kk, _, _, _, e⟩ | ⟨kk, _, _, _, e⟩ | ⟨kk, _, _, _, e⟩ | ⟨kk, _, ho, hk, _, e⟩ | ⟨kk, ho, _, ⟨hk, e⟩ | ⟨hk, e⟩⟩
  · rw [e]; exact Or.inl ⟨h1, h2, h3⟩
  · rw [e]; exact Or.inl ⟨h1, h2, h3⟩
  · rw [e]; exact Or.inl ⟨h1, h2, h3⟩
  · rw [e]; exact Or.inl ⟨h1, h2, h3⟩
  · rw [e, ss_fun_O, ss_fun_W, uv_sn (by omega)]; exact Or.inl ⟨h1, by omega, h3⟩
  · rw [e]; exact Or.inl ⟨h1, h2, h3⟩
  · rw [e]; exact Or.inl ⟨h1, h2, h3⟩
  · rw [e]; exact Or.inl ⟨h1, h2, h3⟩
  · rw [e, ss_blk_O, ss_blk_W, uv_sn (by omega)]; exact Or.inl ⟨h1, by omega, h3⟩
  · by_cases d : i = ss_O (S p)
    · exact Or.inr ⟨Or.inl kk, d⟩
    · rw [e, ss_els_O, ss_els_W, uv_sn d]; exact Or.inl ⟨h1, h2, h3⟩
  · by_cases d : i = ss_O (S p)
    · exact Or.inr ⟨Or.inr kk, d⟩
    · rw [e, ss_enf_O, ss_enf_W]; exact Or.inl ⟨h1, by omega, h3⟩
  · by_cases d : i = ss_O (S p)
    · exact Or.inr ⟨Or.inr kk, d⟩
    · rw [e, ss_enb_O, ss_enb_W]; exact Or.inl ⟨h1, by omega, h3⟩
theorem ss_on_lt {k a : Nat → Int32} {n p w i : Nat} {S : Nat → ss_T} (h : ss_S k a n S) (hp : p ≤ n) (o : ss_on S p w i) : w < p := by
  have := ((ss_I_S h p hp).2.2.2.2.2.2.1 i o.1 o.2.1).1
  rw [o.2.2] at this; exact this
/-- from any later place back to any place behind w -/
theorem ss_on_down {k a : Nat → Int32} {n w i : Nat} {S : Nat → ss_T} (h : ss_S k a n S) : ∀ {q p : Nat}, q ≤ n → w < p → p ≤ q → ss_on S q w i → ss_on S p w i
  | 0, p, _, h1, h2, _ => by omega
  | q + 1, p, hq, h1, h2, o => by
    by_cases e : p = q + 1
    · subst e; exact o
    · exact ss_on_down h (by omega) h1 (by omega) (ss_on_back h (by omega) (by omega) o).1
theorem ss_cl_uniq {k a : Nat → Int32} {n w q q' : Nat} {S : Nat → ss_T} (h : ss_S k a n S) (hq : q < n) (hq' : q' < n) (c : ss_cl k S w q) (c' : ss_cl k S w q') : q = q' := by
  have key : ∀ q q' : Nat, q < n → q' < n → q < q' → ss_cl k S w q → ss_cl k S w q' → False := by
    intro q q' hq hq' hlt c c'
    have w1 := ss_on_lt h (by omega) c.2
    have o := ss_on_down h (q := q') (p := q + 1) (by omega) (by omega) (by omega) c'.2
    have b := ss_on_back h hq (by omega) o
    have e : ss_O (S q') = ss_O (S q) := by
      have p1 := (ss_preS h q (by omega) (ss_O (S q)) c.2.1 (Nat.le_refl _)).2.1
      have p2 := (ss_preS h q' (by omega) (ss_O (S q')) c'.2.1 (Nat.le_refl _)).2.1
      rw [c.2.2.2] at p1
      rw [c'.2.2.2] at p2
      omega
    exact b.2 ⟨c.1, e⟩
  rcases Nat.lt_trichotomy q q' with l | l | l
  · exact (key q q' hq hq' l c c').elim
  · exact l
  · exact (key q' q hq' hq l c' c).elim
theorem ss_cl_ex {k a : Nat → Int32} {n w i : Nat} {S : Nat → ss_T} (h : ss_S k a n S) {p : Nat} (hp : p ≤ n) (o : ss_on S p w i) (hn : ¬ ss_on S n w i) : ∃ q, p ≤ q ∧ q < n ∧ ss_cl k S w q := by
  have key : ∀ d p : Nat, p + d = n → ss_on S p w i → ∃ q, p ≤ q ∧ q < n ∧ ss_cl k S w q := by
    intro d
    induction d with
    | zero => intro p e o; have : p = n := by omega
              subst this; exact absurd o hn
    | succ d ih =>
      intro p e o
      rcases ss_on_fwd h (by omega) o with o' | c
      · obtain ⟨q, h1, h2, h3⟩ := ih (p + 1) (by omega) o'
        exact ⟨q, by omega, h2, h3⟩
      · refine ⟨p, Nat.le_refl _, by omega, c.1, ?_⟩
        rw [← c.2]; exact o
  exact key (n - p) p (by omega) o
/-- the kinds of an open construct by its first word -/
theorem ss_kw {k a : Nat → Int32} {n p w i : Nat} {S : Nat → ss_T} (h : ss_S k a n S) (hp : p ≤ n) (o : ss_on S p w i) :
    (k w = 4 ∧ ss_K (S p) i = 5 ∧ S (w + 1) = ss_fun (S w) w (a w) ∧ ss_O (S w) + 1 = i ∧ ss_C (S p) i = ss_V (S w)) ∨
    (k w = 8 ∧ ss_K (S p) i = a w ∧ ss_K (S p) i ≠ 5 ∧ S (w + 1) = ss_blk (S w) w (a w) ∧ ss_O (S w) + 1 = i ∧ ss_C (S p) i = ss_V (S w)) ∨
    (k w = 9 ∧ ss_K (S p) i = 4 ∧ a w = 0 ∧ S (w + 1) = ss_els (S w) w ∧ ss_O (S w) = i) := by
  obtain ⟨o1, o2, o3⟩ := o
  have hpre := ss_preS h p hp i o1 o2
  unfold ss_pre at hpre
  rw [o3] at hpre
  obtain ⟨hw, hO, h3, _⟩ := hpre
  obtain ⟨hK, hW, hC⟩ := h3 i (Nat.le_refl _)
  rw [o3] at hW
  have hI := ss_I_S h w (by omega)
  have no : ss_W (S w) i = w → ss_O (S w) = i → False := fun e e2 => by
    have := (hI.2.2.2.2.2.2.1 i o1 (by omega)).1
    omega
  rcases h.2 w (by omega) with ⟨kk, _, e⟩ | ⟨kk, _, _, _, e⟩ | ⟨kk, _, _, e⟩ | ⟨kk, _, e⟩ | ⟨kk, _, _, _, _, e⟩ | ⟨kk, _, _, _, e⟩ | ⟨kk, _, _, _, e⟩ | ⟨kk, _, _, _, e⟩ | ⟨kk, ha, _, _, e⟩ | ⟨kk, ha, ho, hk, _, e⟩ | ⟨kk, ho, _, ⟨hk, e⟩ | ⟨hk, e⟩⟩
  · rw [e] at hW hO; exact (no hW hO).elim
  · rw [e] at hW hO; exact (no hW hO).elim
  · rw [e] at hW hO; exact (no hW hO).elim
  · rw [e] at hW hO; exact (no hW hO).elim
  · rw [e, ss_fun_O] at hO
    rw [e, ss_fun_K, ← hO, uv_se] at hK
    rw [e, ss_fun_C, ← hO, uv_se] at hC
    rw [hO] at hK hC
    exact Or.inl ⟨kk, hK.symm, e, hO, hC.symm⟩
  · rw [e] at hW hO; exact (no hW hO).elim
  · rw [e] at hW hO; exact (no hW hO).elim
  · rw [e] at hW hO; exact (no hW hO).elim
  · rw [e, ss_blk_O] at hO
    rw [e, ss_blk_K, ← hO, uv_se] at hK
    rw [e, ss_blk_C, ← hO, uv_se] at hC
    rw [hO] at hK hC
    refine Or.inr (Or.inl ⟨kk, hK.symm, ?_, e, hO, hC.symm⟩)
    rw [← hK]
    rcases ha with z | z | z <;> rw [z] <;> decide
  · rw [e, ss_els_O] at hO
    rw [e, ss_els_K, ← hO, uv_se] at hK
    rw [hO] at hK
    exact Or.inr (Or.inr ⟨kk, hK.symm, ha, e, hO⟩)
  · rw [e, ss_enf_O] at hO
    rw [e, ss_enf_W] at hW
    have := (hI.2.2.2.2.2.2.1 i o1 (by omega)).1
    omega
  · rw [e, ss_enb_O] at hO
    rw [e, ss_enb_W] at hW
    have := (hI.2.2.2.2.2.2.1 i o1 (by omega)).1
    omega
end
section
/-! what the component's arrays hold of the words -/
/-- function word w takes the name x from outside, by the words below n -/
def ss_cap (k a : Nat → Int32) (S : Nat → ss_T) (n w : Nat) (x : Int32) : Prop :=
  ∃ p c, p < n ∧ (k p = 1 ∨ k p = 6) ∧ a p = x ∧ 1 ≤ c ∧ c ≤ ss_O (S p) ∧ ss_K (S p) c = 5 ∧ ss_W (S p) c = w ∧ ss_l (S p) x ≤ ss_C (S p) c
/-- where function word w takes the name x from -/
def ss_sc (s : ss_T) (x : Int32) : Int32 := if ss_C s (ss_f s) < ss_l s x then nI (ss_l s x - 1 - ss_C s (ss_f s)) else -1
/-- one word in the component's code -/
def pg_W (k a : Int32) (s : ss_T) (cd aa ab tg : Int32) : Prop :=
  (k = 0 → cd = 0 ∧ aa = nI (ss_L s + ss_Q s) ∧ ab = a) ∧
  (k = 1 → aa = nI (ss_L s + ss_Q s) ∧ (ss_C s (ss_f s) < ss_l s a → cd = 1 ∧ ab = nI (ss_l s a - 1 - ss_C s (ss_f s))) ∧ (ss_l s a ≤ ss_C s (ss_f s) → cd = 2 ∧ ab = a)) ∧
  (k = 2 → cd = 3 ∧ aa = nI (ss_L s + ss_Q s - 2) ∧ ab = a) ∧
  (k = 3 → cd = 4 ∧ aa = nI (ss_L s + ss_Q s - 2)) ∧
  (k = 4 → cd = 5 ∧ aa = nI (ss_L s + ss_Q s) ∧ ab = nI (ss_F s)) ∧
  (k = 5 → cd = 6) ∧
  (k = 6 → aa = nI (ss_L s) ∧ (ss_C s (ss_f s) < ss_l s a → cd = 7 ∧ ab = nI (ss_l s a - 1 - ss_C s (ss_f s))) ∧ (ss_l s a ≤ ss_C s (ss_f s) → cd = 8 ∧ ab = a)) ∧
  (k = 7 → aa = nI (ss_L s) ∧ (a = 0 → cd = 9) ∧ (a = 1 → cd = 10) ∧ (a = 2 → cd = 11) ∧
    ((a = 3 ∨ a = 4) → cd = (if a = 3 then 12 else 13) ∧ ab = nI (ss_C s (ss_lx (ss_K s) (ss_O s)) - ss_C s (ss_f s)) ∧ tg = nI (ss_W s (ss_lx (ss_K s) (ss_O s))))) ∧
  (k = 8 → aa = nI (ss_L s) ∧ (a = 1 → cd = 14) ∧ (a = 2 → cd = 15) ∧ (a = 3 → cd = 16)) ∧
  (k = 9 → cd = 17 ∧ ab = nI (ss_C s (ss_O s) - ss_C s (ss_f s))) ∧
  (k = 10 → (ss_K s (ss_O s) = 5 → cd = 20) ∧
    (ss_K s (ss_O s) = 3 → cd = 19 ∧ ab = nI (ss_C s (ss_O s) - ss_C s (ss_f s)) ∧ tg = nI (ss_W s (ss_O s) + 1)) ∧
    (ss_K s (ss_O s) ≠ 5 → ss_K s (ss_O s) ≠ 3 → cd = 18 ∧ ab = nI (ss_C s (ss_O s) - ss_C s (ss_f s))))
def pg_P (k a : Nat → Int32) (S : Nat → ss_T) (n : Nat) (cd aa ab tg pe ps : Nat → Int32) : Prop :=
  (∀ p, p < n → pg_W (k p) (a p) (S p) (cd p) (aa p) (ab p) (tg p)) ∧
  (∀ w q, q < n → ss_cl k S w q → tg w = nI (q + 1)) ∧
  (∀ w, w < n → k w = 4 → pe (ss_F (S w)) = nI (w + 1) ∧
    ∀ m, m < 8 → (ss_cap k a S n w (nI m) → ps (ss_F (S w) * 8 + m) = ss_sc (S w) (nI m)) ∧ (¬ ss_cap k a S n w (nI m) → ps (ss_F (S w) * 8 + m) = -2))
/-- the component's tables of what is open -/
def xc_S (S : Nat → ss_T) (n : Nat) (fc oc fd vc : Int32) (oK oW oV fO fF fP vN vO : Nat → Int32) : Prop :=
  fc = nI (ss_F (S n)) ∧ oc = nI (ss_O (S n)) ∧ fd = nI (ss_fd (ss_K (S n)) (ss_O (S n))) ∧ vc = nI (ss_V (S n)) ∧
  (∀ i, i < ss_O (S n) → oK i = ss_K (S n) (i + 1) ∧ oW i = nI (ss_W (S n) (i + 1)) ∧ oV i = nI (ss_C (S n) (i + 1))) ∧
  (∀ i, i ≤ ss_O (S n) → (i = 0 ∨ ss_K (S n) i = 5) → fO (ss_fd (ss_K (S n)) i) = nI (ss_P (S n) i) ∧ fF (ss_fd (ss_K (S n)) i) = nI (ss_C (S n) i) ∧
    (i ≠ 0 → fP (ss_fd (ss_K (S n)) i) = nI (ss_F (S (ss_W (S n) i))))) ∧
  (∀ j, j < ss_V (S n) → vN j = ss_N (S n) j ∧ vO j = nI (ss_ow (ss_K (S n)) (ss_C (S n)) j (ss_O (S n))))

/-! a word more -/
def ss_ag (n : Nat) (k a : Nat → Int32) (S : Nat → ss_T) (k' a' : Nat → Int32) (S' : Nat → ss_T) : Prop :=
  (∀ p, p < n → k' p = k p ∧ a' p = a p) ∧ ∀ p, p ≤ n → S' p = S p
section
variable {n : Nat} {k a k' a' : Nat → Int32} {S S' : Nat → ss_T}
theorem ss_ag_new {x y : Int32} {t : ss_T} : ss_ag n k a S (upd k n x) (upd a n y) (uv_st S (n + 1) t) :=
  ⟨fun p hp => ⟨pk_un (by omega), pk_un (by omega)⟩, fun p hp => uv_sn (by omega)⟩
theorem ss_S_new {x y : Int32} {t : ss_T} (h : ss_S k a n S) (r : ss_R x y n (S n) t) : ss_S (upd k n x) (upd a n y) (n + 1) (uv_st S (n + 1) t) := by
  refine ⟨?_, fun p hp => ?_⟩
  · rw [uv_sn (by omega)]; exact h.1
  · by_cases e : p = n
    · subst e
      rw [pk_us, pk_us, uv_se, uv_sn (by omega)]; exact r
    · rw [pk_un e, pk_un e, uv_sn (by omega), uv_sn (by omega)]; exact h.2 p (by omega)
theorem ss_ag_on (g : ss_ag n k a S k' a' S') {p w i : Nat} (hp : p ≤ n) : ss_on S' p w i ↔ ss_on S p w i := by
  unfold ss_on
  rw [g.2 p hp]
theorem ss_ag_cl (g : ss_ag n k a S k' a' S') {w q : Nat} (hq : q < n) : ss_cl k' S' w q ↔ ss_cl k S w q := by
  unfold ss_cl
  rw [ss_ag_on g (by omega), (g.1 q hq).1, g.2 q (by omega)]
theorem ss_ag_cap (g : ss_ag n k a S k' a' S') {w : Nat} {x : Int32} : ss_cap k' a' S' n w x ↔ ss_cap k a S n w x := by
  constructor
  · rintro ⟨p, c, hp, h⟩
    refine ⟨p, c, hp, ?_⟩
    rw [(g.1 p hp).1, (g.1 p hp).2, g.2 p (by omega)] at h
    exact h
  · rintro ⟨p, c, hp, h⟩
    refine ⟨p, c, hp, ?_⟩
    rw [(g.1 p hp).1, (g.1 p hp).2, g.2 p (by omega)]
    exact h
theorem ss_cap_up {m : Nat} {w : Nat} {x : Int32} (h : ss_cap k a S n w x) (hm : n ≤ m) : ss_cap k a S m w x := by
  obtain ⟨p, c, hp, r⟩ := h
  exact ⟨p, c, by omega, r⟩
/-- what a further word adds -/
theorem ss_cap_s {w : Nat} {x : Int32} : ss_cap k a S (n + 1) w x ↔ ss_cap k a S n w x ∨
    ((k n = 1 ∨ k n = 6) ∧ a n = x ∧ ∃ c, 1 ≤ c ∧ c ≤ ss_O (S n) ∧ ss_K (S n) c = 5 ∧ ss_W (S n) c = w ∧ ss_l (S n) x ≤ ss_C (S n) c) := by
  constructor
  · rintro ⟨p, c, hp, h1, h2, h3⟩
    by_cases e : p = n
    · subst e; exact Or.inr ⟨h1, h2, c, h3⟩
    · exact Or.inl ⟨p, c, by omega, h1, h2, h3⟩
  · rintro (⟨p, c, hp, r⟩ | ⟨h1, h2, c, h3⟩)
    · exact ⟨p, c, by omega, r⟩
    · exact ⟨n, c, by omega, h1, h2, h3⟩
theorem ss_cap_no {w : Nat} {x : Int32} (hn : ∀ i, ¬ ss_on S n w i) : ss_cap k a S (n + 1) w x ↔ ss_cap k a S n w x := by
  rw [ss_cap_s]
  constructor
  · rintro (h | ⟨_, _, c, h1, h2, _, h3, _⟩)
    · exact h
    · exact absurd ⟨h1, h2, h3⟩ (hn c)
  · exact Or.inl
/-- the state in which function word w stands, seen from a later place where it is open -/
theorem ss_fw (h : ss_S k a n S) {p w c : Nat} (hp : p ≤ n) (o : ss_on S p w c) (h5 : ss_K (S p) c = 5) :
    w < p ∧ k w = 4 ∧ ss_O (S w) + 1 = c ∧ ss_V (S w) = ss_C (S p) c ∧ S (w + 1) = ss_fun (S w) w (a w) ∧
    (∀ i, i < c → ss_K (S w) i = ss_K (S p) i ∧ ss_W (S w) i = ss_W (S p) i ∧ ss_C (S w) i = ss_C (S p) i ∧ ss_P (S w) i = ss_P (S p) i) ∧
    (∀ j, j < ss_C (S p) c → ss_N (S w) j = ss_N (S p) j) := by
  have hk := ss_kw h hp o
  rcases hk with ⟨kk, _, e, eO, eC⟩ | ⟨_, _, z, _⟩ | ⟨_, z, _⟩
  · obtain ⟨o1, o2, o3⟩ := o
    have hpre := ss_preS h p hp c o1 o2
    unfold ss_pre at hpre
    rw [o3] at hpre
    obtain ⟨hw, hO, h3, h4, h5', h6⟩ := hpre
    refine ⟨hw, kk, eO, eC.symm, e, fun i hi => ?_, fun j hj => ?_⟩
    · obtain ⟨a1, a2, a3⟩ := h3 i (by omega)
      have a4 := h6 h5 i hi
      rw [e] at a1 a2 a3 a4
      rw [ss_fun_K, uv_sn (by omega)] at a1
      rw [ss_fun_W, uv_sn (by omega)] at a2
      rw [ss_fun_C, uv_sn (by omega)] at a3
      rw [ss_fun_P, uv_sn (by omega)] at a4
      exact ⟨a1, a2, a3, a4⟩
    · have := h5' j (by omega)
      rw [e, ss_fun_N, uv_sn (by omega)] at this
      exact this
  · exact absurd h5 z
  · rw [z] at h5; exact absurd h5 (by decide)
theorem ss_fw_f (h : ss_S k a n S) {p w c : Nat} (hp : p ≤ n) (o : ss_on S p w c) (h5 : ss_K (S p) c = 5) : ss_f (S w) = ss_fx (ss_K (S p)) (c - 1) := by
  obtain ⟨_, _, h3, _, _, h6, _⟩ := ss_fw h hp o h5
  show ss_fx (ss_K (S w)) (ss_O (S w)) = _
  rw [show ss_O (S w) = c - 1 by omega]
  exact ss_fx_cg (fun i hi => (h6 i (by omega)).1)
theorem ss_fw_l (h : ss_S k a n S) {p w c : Nat} {x : Int32} (hp : p ≤ n) (o : ss_on S p w c) (h5 : ss_K (S p) c = 5) (hl : ss_l (S p) x ≤ ss_C (S p) c) : ss_l (S w) x = ss_l (S p) x := by
  obtain ⟨_, _, _, h4, _, _, h7⟩ := ss_fw h hp o h5
  have hI := ss_I_S h p hp
  have hV := (hI.2.2.2.2.2.2.1 c o.1 o.2.1).2.1
  show ss_ls (ss_N (S w)) x (ss_V (S w)) = ss_ls (ss_N (S p)) x (ss_V (S p))
  rw [h4, ss_ls_cg (N' := ss_N (S p)) h7]
  exact ss_ls_cut hV hl
/-- a name that comes through the function outside is taken by that too -/
theorem ss_cap_out (h : ss_S k a n S) {w : Nat} {x : Int32} (c : ss_cap k a S n w x) (h0 : ss_l (S w) x ≠ 0) (hl : ss_l (S w) x ≤ ss_C (S w) (ss_f (S w))) :
    ss_f (S w) ≠ 0 ∧ ss_cap k a S n (ss_W (S w) (ss_f (S w))) x := by
  obtain ⟨p, c, hp, hk, ha, h1, h2, h5, hw, hlc⟩ := c
  have o : ss_on S p w c := ⟨h1, h2, hw⟩
  obtain ⟨b1, b2, b3, b4, b5, b6, b7⟩ := ss_fw h (by omega) o h5
  have el := ss_fw_l h (by omega) o h5 hlc
  have hfl : ss_f (S w) ≤ ss_O (S w) := ss_f_le _
  obtain ⟨e1, e2, e3, _⟩ := b6 (ss_f (S w)) (by omega)
  have hI := ss_I_S h w (by omega)
  have hf0 : ss_f (S w) ≠ 0 := fun z => by
    rw [z, hI.2.2.2.1] at hl
    omega
  have hf5 : ss_K (S w) (ss_f (S w)) = 5 := by
    rcases ss_fx_k (ss_K (S w)) (ss_O (S w)) with z | z
    · exact absurd z hf0
    · exact z.2
  refine ⟨hf0, p, ss_f (S w), hp, hk, ha, by omega, by omega, by rw [← e1]; exact hf5, e2.symm, ?_⟩
  rw [← e3, ← el]; exact hl
/-- the words that are functions have different numbers -/
theorem ss_F_mono (h : ss_S k a n S) : ∀ {q p : Nat}, q ≤ n → p ≤ q → ss_F (S p) ≤ ss_F (S q)
  | 0, p, _, h2 => by have : p = 0 := by omega
                      subst this; exact Nat.le_refl _
  | q + 1, p, hq, h2 => by
    by_cases e : p = q + 1
    · subst e; exact Nat.le_refl _
    · have := ss_F_mono h (q := q) (p := p) (by omega) (by omega)
      have h3 : ss_F (S q) ≤ ss_F (S (q + 1)) := by
        rcases h.2 q (by omega) with ⟨_, _, e⟩ | ⟨_, _, _, _, e⟩ | ⟨_, _, _, e⟩ | ⟨_, _, e⟩ | ⟨_, _, _, _, _, e⟩ | ⟨_, _, _, _, e⟩ | ⟨_, _, _, _, e⟩ | ⟨_, _, _, _, e⟩ | ⟨_, _, _, _, e⟩ | ⟨_, _, _, _, _, e⟩ | ⟨_, _, _, ⟨_, e⟩ | ⟨_, e⟩⟩ <;> rw [e]
        · exact Nat.le_refl _
        · exact Nat.le_refl _
        · exact Nat.le_refl _
        · exact Nat.le_refl _
        · rw [ss_fun_F]; omega
        · exact Nat.le_refl _
        · exact Nat.le_refl _
        · exact Nat.le_refl _
        · exact Nat.le_refl _
        · exact Nat.le_refl _
        · exact Nat.le_refl _
        · exact Nat.le_refl _
      omega
theorem ss_R4 {k a : Int32} {p : Nat} {s t : ss_T} (r : ss_R k a p s t) (h4 : k = 4) : ss_nm a ∧ ss_Q s < 6 ∧ ss_O s < 10 ∧ ss_F s < 16 ∧ t = ss_fun s p a := by
  subst h4
  rcases r with ⟨z, _⟩ | ⟨z, _⟩ | ⟨z, _⟩ | ⟨z, _⟩ | ⟨_, r⟩ | ⟨z, _⟩ | ⟨z, _⟩ | ⟨z, _⟩ | ⟨z, _⟩ | ⟨z, _⟩ | ⟨z, _⟩
  · exact absurd z (by decide)
  · exact absurd z (by decide)
  · exact absurd z (by decide)
  · exact absurd z (by decide)
  · exact r
  · exact absurd z (by decide)
  · exact absurd z (by decide)
  · exact absurd z (by decide)
  · exact absurd z (by decide)
  · exact absurd z (by decide)
  · exact absurd z (by decide)
theorem ss_F_lt (h : ss_S k a n S) {w p : Nat} (hp : p ≤ n) (hw : w < p) (h4 : k w = 4) : ss_F (S w) < ss_F (S p) := by
  have e := (ss_R4 (h.2 w (by omega)) h4).2.2.2.2
  have := ss_F_mono h (q := p) (p := w + 1) hp (by omega)
  rw [e, ss_fun_F] at this
  omega
theorem ss_F_inj (h : ss_S k a n S) {w w' : Nat} (hw : w < n) (hw' : w' < n) (h4 : k w = 4) (h4' : k w' = 4) (e : ss_F (S w) = ss_F (S w')) : w = w' := by
  rcases Nat.lt_trichotomy w w' with l | l | l
  · have := ss_F_lt h (p := w') (by omega) l h4; omega
  · exact l
  · have := ss_F_lt h (p := w) (by omega) l h4'; omega
end
end
section
/-! the heap: cells and the registers and nodes that they stand for -/
theorem hp_pig : ∀ (b a : Nat) (N : Nat → Nat), (∀ u, u < a → N u < b) → (∀ u v, u < a → v < a → N u = N v → u = v) → a ≤ b := by
  intro b
  induction b with
  | zero =>
    intro a N h _
    rcases Nat.eq_zero_or_pos a with z | z
    · omega
    · have := h 0 z; omega
  | succ b ih =>
    intro a N h hi
    by_cases e : ∃ u, u < a ∧ N u = b
    · obtain ⟨u0, h0, e0⟩ := e
      have := ih (a - 1) (fun u => if u < u0 then N u else N (u + 1)) (fun u hu => by
        show (if u < u0 then N u else N (u + 1)) < b
        by_cases c : u < u0
        · rw [if_pos c]
          have h1 := h u (by omega)
          have h2 : N u ≠ b := fun z => by have := hi u u0 (by omega) h0 (by omega); omega
          omega
        · rw [if_neg c]
          have h1 := h (u + 1) (by omega)
          have h2 : N (u + 1) ≠ b := fun z => by have := hi (u + 1) u0 (by omega) h0 (by omega); omega
          omega) (fun u v hu hv huv => by
        have huv' : (if u < u0 then N u else N (u + 1)) = (if v < u0 then N v else N (v + 1)) := huv
        by_cases c : u < u0
        · rw [if_pos c] at huv'
          by_cases d : v < u0
          · rw [if_pos d] at huv'; exact hi u v (by omega) (by omega) huv'
          · rw [if_neg d] at huv'; have := hi u (v + 1) (by omega) (by omega) huv'; omega
        · rw [if_neg c] at huv'
          by_cases d : v < u0
          · rw [if_pos d] at huv'; have := hi (u + 1) v (by omega) (by omega) huv'; omega
          · rw [if_neg d] at huv'; have := hi (u + 1) (v + 1) (by omega) (by omega) huv'; omega)
      omega
    · have := ih a N (fun u hu => by
        have h1 := h u hu
        have h2 : N u ≠ b := fun z => e ⟨u, hu, z⟩
        omega) hi
      omega
/-- h is the open cell with the greatest g below R, or none is -/
def hp_mx (uc : Nat) (g : Nat → Nat) (h : Int32) (R : Nat) : Prop :=
  (h = -1 ∧ ∀ v, v < uc → g v ≠ 0 → R ≤ g v) ∨ (∃ u, u < uc ∧ h = nI u ∧ g u ≠ 0 ∧ g u < R ∧ ∀ v, v < uc → g v < R → g v ≤ g u)
def hp_H (rn N g : Nat → Nat) (uc nd : Nat) (h : Int32) (ur uk uv ux rk rv nk nv : Nat → Int32) : Prop :=
  nd ≤ 160 ∧
  (∀ u, u < uc → N u < nd ∧ ur u = nI (g u) - 1) ∧
  (∀ u v, u < uc → v < uc → N u = N v → u = v) ∧
  (∀ r, rn r ≠ 0 → r < 160 ∧ rn r ≤ nd ∧ rk r = nk (rn r - 1) ∧ rv r = nv (rn r - 1)) ∧
  (∀ r r', rn r ≠ 0 → rn r = rn r' → r = r') ∧
  (∀ u, u < uc → g u ≠ 0 → rn (g u - 1) = N u + 1) ∧
  (∀ u, u < uc → g u = 0 → uk u = nk (N u) ∧ uv u = nv (N u) ∧ ∀ r, rn r ≠ N u + 1) ∧
  hp_mx uc g h 1000 ∧ (∀ u, u < uc → g u ≠ 0 → hp_mx uc g (ux u) (g u))
section
variable {rn N g : Nat → Nat} {uc nd : Nat} {h : Int32} {ur uk uv ux rk rv nk nv : Nat → Int32}
theorem hp_uc (H : hp_H rn N g uc nd h ur uk uv ux rk rv nk nv) : uc ≤ nd ∧ uc ≤ 160 := by
  obtain ⟨h1, h2, h3, _⟩ := H
  have := hp_pig nd uc N (fun u hu => (h2 u hu).1) h3
  omega
theorem hp_g (H : hp_H rn N g uc nd h ur uk uv ux rk rv nk nv) {u : Nat} (hu : u < uc) : g u ≤ 160 := by
  obtain ⟨h1, h2, h3, h4, h5, h6, h7, h8, h9⟩ := H
  by_cases e : g u = 0
  · omega
  · have := h6 u hu e
    have := (h4 (g u - 1) (by omega)).1
    omega
theorem hp_gi (H : hp_H rn N g uc nd h ur uk uv ux rk rv nk nv) {u v : Nat} (hu : u < uc) (hv : v < uc) (h0 : g u ≠ 0) (e : g u = g v) : u = v := by
  obtain ⟨h1, h2, h3, h4, h5, h6, h7, h8, h9⟩ := H
  have a := h6 u hu h0
  have b := h6 v hv (by omega)
  rw [e] at a
  exact h3 u v hu hv (by omega)
/-- the head is closed -/
theorem hp_close {u : Nat} (H : hp_H rn N g uc nd (nI u) ur uk uv ux rk rv nk nv) (hu : u < uc) (h0 : g u ≠ 0) (hm : ∀ v, v < uc → g v ≤ g u) :
    hp_H (uv_st rn (g u - 1) 0) N (uv_st g u 0) uc nd (ux u) (upd ur u (-1)) (upd uk u (rk (g u - 1))) (upd uv u (rv (g u - 1))) ux rk rv nk nv := by
  have gi := fun v hv (e : g u = g v) => hp_gi H hu hv h0 e
  obtain ⟨h1, h2, h3, h4, h5, h6, h7, h8, h9⟩ := H
  have hr := h6 u hu h0
  have hs : ∀ v, v < uc → v ≠ u → uv_st g u 0 v = g v := fun v _ e => uv_sn e
  refine ⟨h1, fun v hv => ⟨(h2 v hv).1, ?_⟩, h3, fun r hr0 => ?_, fun r r' hr0 e => ?_, fun v hv hg => ?_, fun v hv hg => ?_, ?_, fun v hv hg => ?_⟩
  · by_cases e : v = u
    · rw [e, uv_se, pk_us]; rfl
    · rw [uv_sn e, pk_un e]; exact (h2 v hv).2
  · by_cases e : r = g u - 1
    · rw [e, uv_se] at hr0; exact absurd rfl hr0
    · rw [uv_sn e] at hr0 ⊢; exact h4 r hr0
  · by_cases e1 : r = g u - 1
    · rw [e1, uv_se] at hr0; exact absurd rfl hr0
    · rw [uv_sn e1] at hr0 e
      by_cases e2 : r' = g u - 1
      · rw [e2, uv_se] at e; exact absurd e hr0
      · rw [uv_sn e2] at e; exact h5 r r' hr0 e
  · by_cases e : v = u
    · rw [e, uv_se] at hg; exact absurd rfl hg
    · rw [uv_sn e] at hg ⊢
      have : g v - 1 ≠ g u - 1 := fun z => e (gi v hv (by omega)).symm
      rw [uv_sn this]; exact h6 v hv hg
  · by_cases e : v = u
    · subst e
      rw [pk_us, pk_us]
      have a := h4 (g v - 1) (by omega)
      rw [hr] at a
      refine ⟨a.2.2.1, a.2.2.2, fun r hr2 => ?_⟩
      by_cases e1 : r = g v - 1
      · rw [e1, uv_se] at hr2; omega
      · rw [uv_sn e1] at hr2
        exact e1 (h5 r (g v - 1) (by omega) (by omega))
    · rw [uv_sn e] at hg
      rw [pk_un e, pk_un e]
      have a := h7 v hv hg
      refine ⟨a.1, a.2.1, fun r hr2 => ?_⟩
      by_cases e1 : r = g u - 1
      · rw [e1, uv_se] at hr2; omega
      · rw [uv_sn e1] at hr2; exact a.2.2 r hr2
  · rcases h9 u hu h0 with ⟨a, b⟩ | ⟨w, a, b, c, d, e⟩
    · refine Or.inl ⟨a, fun v hv hg => ?_⟩
      by_cases e : v = u
      · rw [e, uv_se] at hg; exact absurd rfl hg
      · rw [uv_sn e] at hg
        have l1 := b v hv hg
        have l2 := hm v hv
        exact absurd (gi v hv (by omega)).symm e
    · have wu : w ≠ u := fun z => by subst z; omega
      refine Or.inr ⟨w, a, b, by rw [uv_sn wu]; exact c, by rw [uv_sn wu]; have := hm w a; have := h4 (g u - 1) (by omega); omega, fun v hv _ => ?_⟩
      rw [uv_sn wu]
      by_cases e2 : v = u
      · rw [e2, uv_se]; omega
      · rw [uv_sn e2]
        have l2 := hm v hv
        have : g v ≠ g u := fun z => e2 (gi v hv z.symm).symm
        exact e v hv (by omega)
  · by_cases e : v = u
    · rw [e, uv_se] at hg; exact absurd rfl hg
    · rw [uv_sn e] at hg ⊢
      have l2 := hm v hv
      have lt : g v < g u := by
        have : g v ≠ g u := fun z => e (gi v hv z.symm).symm
        omega
      rcases h9 v hv hg with ⟨a, b⟩ | ⟨w, a, b, c, d, e'⟩
      · refine Or.inl ⟨a, fun x hx hgx => ?_⟩
        by_cases e2 : x = u
        · rw [e2, uv_se] at hgx; exact absurd rfl hgx
        · rw [uv_sn e2] at hgx ⊢; exact b x hx hgx
      · have wu : w ≠ u := fun z => by subst z; omega
        refine Or.inr ⟨w, a, b, by rw [uv_sn wu]; exact c, by rw [uv_sn wu]; exact d, fun x hx hgx => ?_⟩
        rw [uv_sn wu]
        by_cases e2 : x = u
        · rw [e2, uv_se]; omega
        · rw [uv_sn e2] at hgx ⊢; exact e' x hx hgx
/-- registers that no open cell names leave -/
theorem hp_drop {rn' : Nat → Nat} (H : hp_H rn N g uc nd h ur uk uv ux rk rv nk nv) (hs : ∀ r, rn' r = 0 ∨ rn' r = rn r) (hg : ∀ u, u < uc → g u ≠ 0 → rn' (g u - 1) = rn (g u - 1)) :
    hp_H rn' N g uc nd h ur uk uv ux rk rv nk nv := by
  obtain ⟨h1, h2, h3, h4, h5, h6, h7, h8, h9⟩ := H
  refine ⟨h1, h2, h3, fun r hr => ?_, fun r r' hr e => ?_, fun u hu hu0 => ?_, fun u hu hu0 => ?_, h8, h9⟩
  · rcases hs r with z | z
    · exact absurd z hr
    · rw [z] at hr ⊢; exact h4 r hr
  · rcases hs r with z | z
    · exact absurd z hr
    · rcases hs r' with z' | z'
      · rw [z'] at e; exact absurd e hr
      · rw [z] at hr e; rw [z'] at e; exact h5 r r' hr e
  · rw [hg u hu hu0]; exact h6 u hu hu0
  · obtain ⟨a, b, c⟩ := h7 u hu hu0
    refine ⟨a, b, fun r hr => ?_⟩
    rcases hs r with z | z
    · rw [z] at hr; omega
    · rw [z] at hr; exact c r hr
/-- a register that is no variable's is written -/
theorem hp_setop {r : Nat} {x y : Int32} (H : hp_H rn N g uc nd h ur uk uv ux rk rv nk nv) (hr : rn r = 0) :
    hp_H rn N g uc nd h ur uk uv ux (upd rk r x) (upd rv r y) nk nv := by
  obtain ⟨h1, h2, h3, h4, h5, h6, h7, h8, h9⟩ := H
  refine ⟨h1, h2, h3, fun r' hr' => ?_, h5, h6, h7, h8, h9⟩
  have : r' ≠ r := fun z => by rw [z] at hr'; exact hr' hr
  rw [pk_un this, pk_un this]; exact h4 r' hr'
/-- a variable in a register is written -/
theorem hp_setvar {r v : Nat} {x y : Int32} (H : hp_H rn N g uc nd h ur uk uv ux rk rv nk nv) (hr : rn r = v + 1) :
    hp_H rn N g uc nd h ur uk uv ux (upd rk r x) (upd rv r y) (upd nk v x) (upd nv v y) := by
  obtain ⟨h1, h2, h3, h4, h5, h6, h7, h8, h9⟩ := H
  refine ⟨h1, h2, h3, fun r' hr' => ?_, h5, h6, fun u hu hg => ?_, h8, h9⟩
  · by_cases e : r' = r
    · subst e
      rw [pk_us, pk_us, hr, Nat.add_sub_cancel, pk_us, pk_us]
      have := h4 r' hr'
      rw [hr] at this
      exact ⟨this.1, this.2.1, rfl, rfl⟩
    · have : rn r' - 1 ≠ v := fun z => e (h5 r' r hr' (by omega))
      rw [pk_un e, pk_un e, pk_un this, pk_un this]; exact h4 r' hr'
  · obtain ⟨a, b, c⟩ := h7 u hu hg
    have : N u ≠ v := fun z => c r (by omega)
    rw [pk_un this, pk_un this]; exact ⟨a, b, c⟩
/-- a closed cell is written -/
theorem hp_setcl {u : Nat} {x y : Int32} (H : hp_H rn N g uc nd h ur uk uv ux rk rv nk nv) (hu : u < uc) (hg : g u = 0) :
    hp_H rn N g uc nd h ur (upd uk u x) (upd uv u y) ux rk rv (upd nk (N u) x) (upd nv (N u) y) := by
  obtain ⟨h1, h2, h3, h4, h5, h6, h7, h8, h9⟩ := H
  obtain ⟨_, _, c0⟩ := h7 u hu hg
  refine ⟨h1, h2, h3, fun r hr => ?_, h5, h6, fun v hv hgv => ?_, h8, h9⟩
  · have : rn r - 1 ≠ N u := fun z => c0 r (by omega)
    rw [pk_un this, pk_un this]; exact h4 r hr
  · obtain ⟨a, b, c⟩ := h7 v hv hgv
    by_cases e : v = u
    · subst e; rw [pk_us, pk_us, pk_us, pk_us]; exact ⟨rfl, rfl, c⟩
    · have : N v ≠ N u := fun z => e (h3 v u hv hu z)
      rw [pk_un e, pk_un e, pk_un this, pk_un this]; exact ⟨a, b, c⟩
/-- a new variable -/
theorem hp_new {r : Nat} (H : hp_H rn N g uc nd h ur uk uv ux rk rv nk nv) (hn : nd < 160) (hr : rn r = 0) (hr2 : r < 160) :
    hp_H (uv_st rn r (nd + 1)) N g uc (nd + 1) h ur uk uv ux rk rv (upd nk nd (rk r)) (upd nv nd (rv r)) := by
  obtain ⟨h1, h2, h3, h4, h5, h6, h7, h8, h9⟩ := H
  refine ⟨hn, fun u hu => ⟨by have := (h2 u hu).1; omega, (h2 u hu).2⟩, h3, fun r' hr' => ?_, fun a b ha hab => ?_, fun u hu hg => ?_, fun u hu hg => ?_, h8, h9⟩
  · by_cases e : r' = r
    · subst e
      rw [uv_se, Nat.add_sub_cancel, pk_us, pk_us]
      exact ⟨hr2, Nat.le_refl _, rfl, rfl⟩
    · rw [uv_sn e] at hr' ⊢
      have := h4 r' hr'
      rw [pk_un (by omega), pk_un (by omega)]
      exact ⟨this.1, by omega, this.2.2⟩
  · by_cases e : a = r
    · subst e
      rw [uv_se] at hab
      by_cases e2 : b = a
      · exact e2.symm
      · rw [uv_sn e2] at hab
        have := (h4 b (by omega)).2.1
        omega
    · rw [uv_sn e] at ha hab
      by_cases e2 : b = r
      · subst e2
        rw [uv_se] at hab
        have := (h4 a ha).2.1
        omega
      · rw [uv_sn e2] at hab; exact h5 a b ha hab
  · have := h6 u hu hg
    have : g u - 1 ≠ r := fun z => by rw [z] at this; omega
    rw [uv_sn this]; exact h6 u hu hg
  · obtain ⟨a, b, c⟩ := h7 u hu hg
    have hN := (h2 u hu).1
    rw [pk_un (by omega), pk_un (by omega)]
    refine ⟨a, b, fun r' hr' => ?_⟩
    by_cases e : r' = r
    · subst e; rw [uv_se] at hr'; omega
    · rw [uv_sn e] at hr'; exact c r' hr'
/-- a new open cell for register r between bf and cur -/
theorem hp_cell_mx {r R : Nat} {c : Int32} (hc : hp_mx uc g c R) (hlt : r + 1 < R → ∀ u, u < uc → g u < R → g u < r + 1) (hR : R ≠ r + 1) :
    (r + 1 < R → hp_mx (uc + 1) (uv_st g uc (r + 1)) (nI uc) R) ∧ (R < r + 1 → hp_mx (uc + 1) (uv_st g uc (r + 1)) c R) := by
  constructor
  · intro h1
    refine Or.inr ⟨uc, by omega, rfl, by rw [uv_se]; omega, by rw [uv_se]; exact h1, fun v hv hgv => ?_⟩
    rw [uv_se]
    by_cases e : v = uc
    · rw [e, uv_se]; omega
    · rw [uv_sn e] at hgv ⊢
      have := hlt h1 v (by omega) hgv
      omega
  · intro h1
    rcases hc with ⟨a, b⟩ | ⟨w, a, b, c', d, e'⟩
    · refine Or.inl ⟨a, fun v hv hgv => ?_⟩
      by_cases e : v = uc
      · rw [e, uv_se]; omega
      · rw [uv_sn e] at hgv ⊢; exact b v (by omega) hgv
    · refine Or.inr ⟨w, by omega, b, by rw [uv_sn (by omega)]; exact c', by rw [uv_sn (by omega)]; exact d, fun v hv hgv => ?_⟩
      rw [uv_sn (i := uc) (j := w) (by omega)]
      by_cases e : v = uc
      · rw [e, uv_se] at hgv; omega
      · rw [uv_sn e] at hgv ⊢; exact e' v (by omega) hgv
/-- the common part of a new cell: all but the list -/
theorem hp_cell {r v : Nat} {h' : Int32} {ux' : Nat → Int32} (H : hp_H rn N g uc nd h ur uk uv ux rk rv nk nv) (hr : rn r = v + 1)
    (hno : ∀ u, u < uc → g u ≠ r + 1) (hh : hp_mx (uc + 1) (uv_st g uc (r + 1)) h' 1000)
    (hx : ∀ u, u < uc + 1 → uv_st g uc (r + 1) u ≠ 0 → hp_mx (uc + 1) (uv_st g uc (r + 1)) (ux' u) (uv_st g uc (r + 1) u)) :
    hp_H rn (uv_st N uc v) (uv_st g uc (r + 1)) (uc + 1) nd h' (upd ur uc (nI r)) uk uv ux' rk rv nk nv := by
  obtain ⟨h1, h2, h3, h4, h5, h6, h7, h8, h9⟩ := H
  have hv := (h4 r (by omega)).2.1
  have nN : ∀ u, u < uc → N u ≠ v := fun u hu z => by
    by_cases e : g u = 0
    · exact (h7 u hu e).2.2 r (by omega)
    · have a := h6 u hu e
      have := h5 (g u - 1) r (by omega) (by omega)
      exact hno u hu (by omega)
  refine ⟨h1, fun u hu => ?_, fun a b ha hb hab => ?_, h4, h5, fun u hu hg => ?_, fun u hu hg => ?_, hh, hx⟩
  · by_cases e : u = uc
    · subst e
      rw [uv_se, uv_se, pk_us]
      exact ⟨by omega, (nI_pred r).symm⟩
    · rw [uv_sn e, uv_sn e, pk_un e]; exact h2 u (by omega)
  · by_cases e : a = uc
    · rw [e, uv_se] at hab
      by_cases e2 : b = uc
      · omega
      · rw [uv_sn e2] at hab; exact absurd hab.symm (nN b (by omega))
    · rw [uv_sn e] at hab
      by_cases e2 : b = uc
      · rw [e2, uv_se] at hab; exact absurd hab (nN a (by omega))
      · rw [uv_sn e2] at hab; exact h3 a b (by omega) (by omega) hab
  · by_cases e : u = uc
    · subst e
      rw [uv_se, uv_se]; exact hr
    · rw [uv_sn e] at hg
      rw [uv_sn e, uv_sn e]; exact h6 u (by omega) hg
  · by_cases e : u = uc
    · rw [e, uv_se] at hg; omega
    · rw [uv_sn e] at hg
      rw [uv_sn e]; exact h7 u (by omega) hg
/-- room for a new cell -/
theorem hp_room {r v : Nat} (H : hp_H rn N g uc nd h ur uk uv ux rk rv nk nv) (hr : rn r = v + 1) (hno : ∀ u, u < uc → g u ≠ r + 1) : uc < nd := by
  obtain ⟨h1, h2, h3, h4, h5, h6, h7, h8, h9⟩ := H
  have hv := (h4 r (by omega)).2.1
  have nN : ∀ u, u < uc → N u ≠ v := fun u hu z => by
    by_cases e : g u = 0
    · exact (h7 u hu e).2.2 r (by omega)
    · have a := h6 u hu e
      have := h5 (g u - 1) r (by omega) (by omega)
      exact hno u hu (by omega)
  have := hp_pig nd (uc + 1) (uv_st N uc v) (fun u hu => by
    by_cases e : u = uc
    · rw [e, uv_se]; omega
    · rw [uv_sn e]; exact (h2 u (by omega)).1) (fun a b ha hb hab => by
    by_cases e : a = uc
    · rw [e, uv_se] at hab
      by_cases e2 : b = uc
      · omega
      · rw [uv_sn e2] at hab; exact absurd hab.symm (nN b (by omega))
    · rw [uv_sn e] at hab
      by_cases e2 : b = uc
      · rw [e2, uv_se] at hab; exact absurd hab (nN a (by omega))
      · rw [uv_sn e2] at hab; exact h3 a b (by omega) (by omega) hab)
  omega
/-- insertion at the head -/
theorem hp_cell_hd {r v : Nat} (H : hp_H rn N g uc nd h ur uk uv ux rk rv nk nv) (hr : rn r = v + 1) (hlt : ∀ u, u < uc → g u < r + 1) :
    hp_H rn (uv_st N uc v) (uv_st g uc (r + 1)) (uc + 1) nd (nI uc) (upd ur uc (nI r)) uk uv (upd ux uc h) rk rv nk nv := by
  have hr160 := (H.2.2.2.1 r (by omega)).1
  refine hp_cell H hr (fun u hu => by have := hlt u hu; omega) ?_ ?_
  · exact (hp_cell_mx H.2.2.2.2.2.2.2.1 (fun _ u hu _ => hlt u hu) (by omega)).1 (by omega)
  · intro u hu hg
    by_cases e : u = uc
    · subst e
      rw [uv_se, pk_us]
      rcases H.2.2.2.2.2.2.2.1 with ⟨a, b⟩ | ⟨w, a, b, c, d, e'⟩
      · refine Or.inl ⟨a, fun v hv hgv => ?_⟩
        by_cases e : v = u
        · rw [e, uv_se]; exact Nat.le_refl _
        · rw [uv_sn e] at hgv ⊢
          have := b v (by omega) hgv
          have := hlt v (by omega)
          omega
      · refine Or.inr ⟨w, by omega, b, by rw [uv_sn (by omega)]; exact c, by rw [uv_sn (by omega)]; exact hlt w a, fun v hv hgv => ?_⟩
        rw [uv_sn (i := u) (j := w) (by omega)]
        by_cases e : v = u
        · rw [e, uv_se] at hgv; omega
        · rw [uv_sn e] at hgv ⊢
          exact e' v (by omega) (by omega)
    · rw [uv_sn e] at hg ⊢
      rw [pk_un e]
      have hlu := hlt u (by omega)
      exact (hp_cell_mx (r := r) (H.2.2.2.2.2.2.2.2 u (by omega) hg) (fun h1 => by omega) (by omega)).2 hlu
/-- insertion behind bf -/
theorem hp_cell_in {r v bf : Nat} {cur : Int32} (H : hp_H rn N g uc nd h ur uk uv ux rk rv nk nv) (hr : rn r = v + 1) (hb : bf < uc) (hbg : r + 1 < g bf) (hcur : ux bf = cur)
    (hlt : ∀ u, u < uc → g u < g bf → g u < r + 1) :
    hp_H rn (uv_st N uc v) (uv_st g uc (r + 1)) (uc + 1) nd h (upd ur uc (nI r)) uk uv (upd (upd ux uc cur) bf (nI uc)) rk rv nk nv := by
  have hr160 := (H.2.2.2.1 r (by omega)).1
  have gb := hp_g H hb
  have gi := fun v hv (h0 : g v ≠ 0) (e : g v = g bf) => hp_gi H hv hb h0 e
  have hno : ∀ u, u < uc → g u ≠ r + 1 := fun u hu z => by have := hlt u hu (by omega); omega
  refine hp_cell H hr hno ?_ ?_
  · rcases H.2.2.2.2.2.2.2.1 with ⟨a, b⟩ | ⟨w, a, b, c, d, e'⟩
    · have := b bf hb (by omega); omega
    · have := e' bf hb (by omega)
      refine Or.inr ⟨w, by omega, b, by rw [uv_sn (by omega)]; exact c, by rw [uv_sn (by omega)]; exact d, fun x hx hgx => ?_⟩
      rw [uv_sn (i := uc) (j := w) (by omega)]
      by_cases e : x = uc
      · rw [e, uv_se]; omega
      · rw [uv_sn e] at hgx ⊢; exact e' x (by omega) hgx
  · intro u hu hg
    by_cases e : u = uc
    · subst e
      rw [uv_se, pk_un (by omega), pk_us]
      have h9 := H.2.2.2.2.2.2.2.2 bf hb (by omega)
      rw [hcur] at h9
      rcases h9 with ⟨a, b⟩ | ⟨w, a, b, c, d, e'⟩
      · refine Or.inl ⟨a, fun x hx hgx => ?_⟩
        by_cases e : x = u
        · rw [e, uv_se]; exact Nat.le_refl _
        · rw [uv_sn e] at hgx ⊢
          have := b x (by omega) hgx
          omega
      · refine Or.inr ⟨w, by omega, b, by rw [uv_sn (by omega)]; exact c, by rw [uv_sn (by omega)]; exact hlt w a d, fun x hx hgx => ?_⟩
        rw [uv_sn (i := u) (j := w) (by omega)]
        by_cases e : x = u
        · rw [e, uv_se] at hgx; omega
        · rw [uv_sn e] at hgx ⊢
          exact e' x (by omega) (by omega)
    · rw [uv_sn e] at hg ⊢
      by_cases e2 : u = bf
      · subst e2
        rw [pk_us]
        exact (hp_cell_mx (r := r) (H.2.2.2.2.2.2.2.2 u hb hg) (fun _ x hx hgx => hlt x hx hgx) (by omega)).1 hbg
      · rw [pk_un e2, pk_un e]
        have hul : u < uc := by omega
        by_cases lt : g u < g bf
        · exact (hp_cell_mx (r := r) (H.2.2.2.2.2.2.2.2 u hul hg) (fun h1 => by have := hlt u hul lt; omega) (hno u hul)).2 (hlt u hul lt)
        · have ne : g u ≠ g bf := fun z => e2 (gi u hul hg z)
          rcases H.2.2.2.2.2.2.2.2 u hul hg with ⟨a, b⟩ | ⟨w, a, b, c, d, e'⟩
          · have := b bf hb (by omega); omega
          · have := e' bf hb (by omega)
            refine Or.inr ⟨w, by omega, b, by rw [uv_sn (by omega)]; exact c, by rw [uv_sn (by omega)]; exact d, fun x hx hgx => ?_⟩
            rw [uv_sn (i := uc) (j := w) (by omega)]
            by_cases e : x = uc
            · rw [e, uv_se]; omega
            · rw [uv_sn e] at hgx ⊢; exact e' x (by omega) hgx
end
end
section
/-! the component's tables, a word more -/
section
variable {n : Nat} {k a k' a' : Nat → Int32} {S S' : Nat → ss_T} {fc oc fd vc : Int32} {oK oW oV fO fF fP vN vO : Nat → Int32}
theorem xc_ffp (h : ss_S k a n S) (s : ss_T) (hs : s = S n) : ss_f s = 0 ∨ ss_K s (ss_f s) = 5 := by
  rcases ss_fx_k (ss_K s) (ss_O s) with z | z
  · exact Or.inl z
  · exact Or.inr z.2
theorem xc_f5 (s : ss_T) : ss_f s = 0 ∨ ss_K s (ss_f s) = 5 := by
  rcases ss_fx_k (ss_K s) (ss_O s) with z | z
  · exact Or.inl z
  · exact Or.inr z.2
theorem xc_fdf (s : ss_T) : ss_fd (ss_K s) (ss_f s) = ss_fd (ss_K s) (ss_O s) := ss_fd_fx _ _
theorem xc_fdne {s : ss_T} {i : Nat} (hi : i = 0 ∨ ss_K s i = 5) (h : i ≠ ss_f s) : ss_fd (ss_K s) i ≠ ss_fd (ss_K s) (ss_O s) := fun z => by
  rw [← xc_fdf] at z
  exact h (ss_fd_inj hi (xc_f5 s) z)
/-- the tables at the function that is open -/
theorem xc_top (h : xc_S S n fc oc fd vc oK oW oV fO fF fP vN vO) : fO (ss_fd (ss_K (S n)) (ss_O (S n))) = nI (ss_Q (S n)) ∧ fF (ss_fd (ss_K (S n)) (ss_O (S n))) = nI (ss_C (S n) (ss_f (S n))) := by
  obtain ⟨_, _, _, _, _, h6, _⟩ := h
  have := h6 (ss_f (S n)) (ss_f_le _) (xc_f5 _)
  rw [xc_fdf] at this
  exact ⟨this.1, this.2.1⟩
theorem xc_smp {q : Nat} (hS : ss_S k a n S) (g : ss_ag n k a S k' a' S') (e : S' (n + 1) = ss_smp (S n) q) (h : xc_S S n fc oc fd vc oK oW oV fO fF fP vN vO) :
    xc_S S' (n + 1) fc oc fd vc oK oW oV (upd fO (ss_fd (ss_K (S n)) (ss_O (S n))) (nI q)) fF fP vN vO := by
  obtain ⟨h1, h2, h3, h4, h5, h6, h7⟩ := h
  have hI := ss_I_S hS n (Nat.le_refl _)
  unfold xc_S
  rw [e]
  refine ⟨h1, h2, h3, h4, h5, fun i hi hk => ?_, h7⟩
  have hi' : i ≤ ss_O (S n) := hi
  obtain ⟨a1, a2, a3⟩ := h6 i hi hk
  refine ⟨?_, a2, fun h0 => ?_⟩
  · show upd fO (ss_fd (ss_K (S n)) (ss_O (S n))) (nI q) (ss_fd (ss_K (S n)) i) = nI (uv_st (ss_P (S n)) (ss_f (S n)) q i)
    by_cases c : i = ss_f (S n)
    · rw [c, uv_se, xc_fdf, pk_us]
    · rw [uv_sn c, pk_un (xc_fdne (s := S n) hk c)]; exact a1
  · have := (hI.2.2.2.2.2.2.1 i (by omega) hi').1
    rw [ss_smp_W, g.2 _ (by omega)]; exact a3 h0
theorem xc_dcl {x : Int32} (hS : ss_S k a n S) (g : ss_ag n k a S k' a' S') (e : S' (n + 1) = ss_dcl (S n) x) (h : xc_S S n fc oc fd vc oK oW oV fO fF fP vN vO) :
    xc_S S' (n + 1) fc oc fd (nI (ss_V (S n) + 1)) oK oW oV (upd fO (ss_fd (ss_K (S n)) (ss_O (S n))) 0) fF fP (upd vN (ss_V (S n)) x) (upd vO (ss_V (S n)) (nI (ss_fd (ss_K (S n)) (ss_O (S n))))) := by
  obtain ⟨h1, h2, h3, h4, h5, h6, h7⟩ := h
  have hI := ss_I_S hS n (Nat.le_refl _)
  unfold xc_S
  rw [e]
  refine ⟨h1, h2, h3, rfl, h5, fun i hi hk => ?_, fun j hj => ?_⟩
  · have hi' : i ≤ ss_O (S n) := hi
    obtain ⟨a1, a2, a3⟩ := h6 i hi hk
    refine ⟨?_, a2, fun h0 => ?_⟩
    · show upd fO (ss_fd (ss_K (S n)) (ss_O (S n))) 0 (ss_fd (ss_K (S n)) i) = nI (uv_st (ss_P (S n)) (ss_f (S n)) 0 i)
      by_cases c : i = ss_f (S n)
      · rw [c, uv_se, xc_fdf, pk_us]; rfl
      · rw [uv_sn c, pk_un (xc_fdne (s := S n) hk c)]; exact a1
    · have := (hI.2.2.2.2.2.2.1 i (by omega) hi').1
      rw [ss_dcl_W, g.2 _ (by omega)]; exact a3 h0
  · rw [ss_dcl_V] at hj
    rw [ss_dcl_N, ss_dcl_K, ss_dcl_C, ss_dcl_O]
    by_cases c : j = ss_V (S n)
    · rw [c, pk_us, pk_us, uv_se]
      refine ⟨rfl, ?_⟩
      rw [ss_ow_all (fun d d1 d2 _ => (hI.2.2.2.2.2.2.1 d d1 d2).2.1)]
    · rw [pk_un c, pk_un c, uv_sn c]
      exact h7 j (by omega)
theorem xc_fun {x : Int32} (hS : ss_S k a n S) (g : ss_ag n k a S k' a' S') (e : S' (n + 1) = ss_fun (S n) n x) (h : xc_S S n fc oc fd vc oK oW oV fO fF fP vN vO) :
    xc_S S' (n + 1) (nI (ss_F (S n) + 1)) (nI (ss_O (S n) + 1)) (nI (ss_fd (ss_K (S n)) (ss_O (S n)) + 1)) (nI (ss_V (S n) + 1))
      (upd oK (ss_O (S n)) 5) (upd oW (ss_O (S n)) (nI n)) (upd oV (ss_O (S n)) (nI (ss_V (S n))))
      (upd fO (ss_fd (ss_K (S n)) (ss_O (S n)) + 1) 0) (upd fF (ss_fd (ss_K (S n)) (ss_O (S n)) + 1) (nI (ss_V (S n)))) (upd fP (ss_fd (ss_K (S n)) (ss_O (S n)) + 1) (nI (ss_F (S n))))
      (upd vN (ss_V (S n)) x) (upd vO (ss_V (S n)) (nI (ss_fd (ss_K (S n)) (ss_O (S n)) + 1))) := by
  obtain ⟨h1, h2, h3, h4, h5, h6, h7⟩ := h
  have hI := ss_I_S hS n (Nat.le_refl _)
  have eK : ∀ c, c ≤ ss_O (S n) → uv_st (ss_K (S n)) (ss_O (S n) + 1) 5 c = ss_K (S n) c := fun c hc => uv_sn (by omega)
  have eC : ∀ c, c ≤ ss_O (S n) → uv_st (ss_C (S n)) (ss_O (S n) + 1) (ss_V (S n)) c = ss_C (S n) c := fun c hc => uv_sn (by omega)
  have eW : ∀ c, c ≤ ss_O (S n) → uv_st (ss_W (S n)) (ss_O (S n) + 1) n c = ss_W (S n) c := fun c hc => uv_sn (by omega)
  have eP : ∀ c, c ≤ ss_O (S n) → uv_st (ss_P (S n)) (ss_O (S n) + 1) 0 c = ss_P (S n) c := fun c hc => uv_sn (by omega)
  have ed : ∀ c, c ≤ ss_O (S n) → ss_fd (uv_st (ss_K (S n)) (ss_O (S n) + 1) 5) c = ss_fd (ss_K (S n)) c := fun c hc => ss_fd_cg (fun d _ hd => eK d (by omega))
  have eD : ss_fd (uv_st (ss_K (S n)) (ss_O (S n) + 1) 5) (ss_O (S n) + 1) = ss_fd (ss_K (S n)) (ss_O (S n)) + 1 := by
    rw [ss_fd_s5 uv_se, ed _ (Nat.le_refl _)]
  unfold xc_S
  rw [e]
  rw [ss_fun_O, ss_fun_K, ss_fun_F, ss_fun_V, ss_fun_W, ss_fun_C, ss_fun_P, ss_fun_N, eD]
  refine ⟨rfl, rfl, rfl, rfl, fun i hi => ?_, fun i hi hk => ?_, fun j hj => ?_⟩
  · by_cases c : i = ss_O (S n)
    · rw [c, pk_us, pk_us, pk_us, uv_se, uv_se, uv_se]; exact ⟨rfl, rfl, rfl⟩
    · rw [pk_un c, pk_un c, pk_un c, eK (i + 1) (by omega), eW (i + 1) (by omega), eC (i + 1) (by omega)]
      exact h5 i (by omega)
  · by_cases c : i = ss_O (S n) + 1
    · rw [c, eD, pk_us, pk_us, pk_us, uv_se, uv_se, uv_se, g.2 n (Nat.le_refl _)]
      exact ⟨rfl, rfl, fun _ => rfl⟩
    · rw [eK i (by omega)] at hk
      have := ss_fd_mono (ss_K (S n)) (i := i) (j := ss_O (S n)) (by omega)
      rw [ed i (by omega), pk_un (by omega), pk_un (by omega), pk_un (by omega), eP i (by omega), eC i (by omega), eW i (by omega)]
      obtain ⟨a1, a2, a3⟩ := h6 i (by omega) hk
      refine ⟨a1, a2, fun h0 => ?_⟩
      have := (hI.2.2.2.2.2.2.1 i (by omega) (by omega)).1
      rw [g.2 _ (by omega)]; exact a3 h0
  · by_cases c : j = ss_V (S n)
    · rw [c, pk_us, pk_us, uv_se]
      refine ⟨rfl, ?_⟩
      rw [ss_ow_all (fun d d1 d2 _ => ?_), eD]
      by_cases c2 : d = ss_O (S n) + 1
      · rw [c2, uv_se]; exact Nat.le_refl _
      · rw [eC d (by omega)]; exact (hI.2.2.2.2.2.2.1 d d1 (by omega)).2.1
    · rw [pk_un c, pk_un c, uv_sn c]
      have hj2 : j < ss_V (S n) := by omega
      have e2 : ss_ow (uv_st (ss_K (S n)) (ss_O (S n) + 1) 5) (uv_st (ss_C (S n)) (ss_O (S n) + 1) (ss_V (S n))) j (ss_O (S n) + 1) = ss_ow (ss_K (S n)) (ss_C (S n)) j (ss_O (S n)) := by
        rw [ss_ow_cut (c := ss_O (S n)) (by omega) (fun d d1 d2 _ => by
          have : d = ss_O (S n) + 1 := by omega
          rw [this, uv_se]; exact hj2)]
        exact ss_ow_cg (fun d _ hd => ⟨eK d hd, eC d hd⟩)
      rw [e2]
      exact h7 j hj2
theorem xc_blk {x : Int32} (hx : x ≠ 5) (hS : ss_S k a n S) (g : ss_ag n k a S k' a' S') (e : S' (n + 1) = ss_blk (S n) n x) (h : xc_S S n fc oc fd vc oK oW oV fO fF fP vN vO) :
    xc_S S' (n + 1) fc (nI (ss_O (S n) + 1)) fd vc
      (upd oK (ss_O (S n)) x) (upd oW (ss_O (S n)) (nI n)) (upd oV (ss_O (S n)) (nI (ss_V (S n))))
      (upd fO (ss_fd (ss_K (S n)) (ss_O (S n))) 0) fF fP vN vO := by
  obtain ⟨h1, h2, h3, h4, h5, h6, h7⟩ := h
  have hI := ss_I_S hS n (Nat.le_refl _)
  have eK : ∀ c, c ≤ ss_O (S n) → uv_st (ss_K (S n)) (ss_O (S n) + 1) x c = ss_K (S n) c := fun c hc => uv_sn (by omega)
  have eC : ∀ c, c ≤ ss_O (S n) → uv_st (ss_C (S n)) (ss_O (S n) + 1) (ss_V (S n)) c = ss_C (S n) c := fun c hc => uv_sn (by omega)
  have eW : ∀ c, c ≤ ss_O (S n) → uv_st (ss_W (S n)) (ss_O (S n) + 1) n c = ss_W (S n) c := fun c hc => uv_sn (by omega)
  have ed : ∀ c, c ≤ ss_O (S n) → ss_fd (uv_st (ss_K (S n)) (ss_O (S n) + 1) x) c = ss_fd (ss_K (S n)) c := fun c hc => ss_fd_cg (fun d _ hd => eK d (by omega))
  have eD : ss_fd (uv_st (ss_K (S n)) (ss_O (S n) + 1) x) (ss_O (S n) + 1) = ss_fd (ss_K (S n)) (ss_O (S n)) := by
    rw [ss_fd_sn (by rw [uv_se]; exact hx), ed _ (Nat.le_refl _)]
  unfold xc_S
  rw [e]
  rw [ss_blk_O, ss_blk_K, ss_blk_F, ss_blk_V, ss_blk_W, ss_blk_C, ss_blk_P, ss_blk_N, eD]
  refine ⟨h1, rfl, h3, h4, fun i hi => ?_, fun i hi hk => ?_, fun j hj => ?_⟩
  · by_cases c : i = ss_O (S n)
    · rw [c, pk_us, pk_us, pk_us, uv_se, uv_se, uv_se]; exact ⟨rfl, rfl, rfl⟩
    · rw [pk_un c, pk_un c, pk_un c, eK (i + 1) (by omega), eW (i + 1) (by omega), eC (i + 1) (by omega)]
      exact h5 i (by omega)
  · by_cases c : i = ss_O (S n) + 1
    · rw [c, uv_se] at hk
      rcases hk with z | z
      · omega
      · exact absurd z hx
    · rw [eK i (by omega)] at hk
      rw [ed i (by omega), uv_sn (i := ss_O (S n) + 1) (j := i) c, eC i (by omega), eW i (by omega)]
      obtain ⟨a1, a2, a3⟩ := h6 i (by omega) hk
      refine ⟨?_, a2, fun h0 => ?_⟩
      · by_cases c2 : i = ss_f (S n)
        · rw [c2, uv_se, xc_fdf, pk_us]; rfl
        · rw [uv_sn c2, pk_un (xc_fdne hk c2)]; exact a1
      · have := (hI.2.2.2.2.2.2.1 i (by omega) (by omega)).1
        rw [g.2 _ (by omega)]; exact a3 h0
  · have e2 : ss_ow (uv_st (ss_K (S n)) (ss_O (S n) + 1) x) (uv_st (ss_C (S n)) (ss_O (S n) + 1) (ss_V (S n))) j (ss_O (S n) + 1) = ss_ow (ss_K (S n)) (ss_C (S n)) j (ss_O (S n)) := by
      rw [ss_ow_cut (c := ss_O (S n)) (by omega) (fun d d1 d2 _ => by
        have : d = ss_O (S n) + 1 := by omega
        rw [this, uv_se]; exact hj)]
      exact ss_ow_cg (fun d _ hd => ⟨eK d hd, eC d hd⟩)
    rw [e2]
    exact h7 j hj
theorem xc_els (ho : 1 ≤ ss_O (S n)) (hk2 : ss_K (S n) (ss_O (S n)) = 2) (hS : ss_S k a n S) (g : ss_ag n k a S k' a' S') (e : S' (n + 1) = ss_els (S n) n) (h : xc_S S n fc oc fd vc oK oW oV fO fF fP vN vO) :
    xc_S S' (n + 1) fc oc fd (nI (ss_C (S n) (ss_O (S n)))) (upd oK (ss_O (S n) - 1) 4) (upd oW (ss_O (S n) - 1) (nI n)) oV fO fF fP vN vO := by
  obtain ⟨h1, h2, h3, h4, h5, h6, h7⟩ := h
  have hI := ss_I_S hS n (Nat.le_refl _)
  have hk5 : ss_K (S n) (ss_O (S n)) ≠ 5 := by rw [hk2]; decide
  have eK : ∀ c, c ≠ ss_O (S n) → uv_st (ss_K (S n)) (ss_O (S n)) 4 c = ss_K (S n) c := fun c hc => uv_sn hc
  have eW : ∀ c, c ≠ ss_O (S n) → uv_st (ss_W (S n)) (ss_O (S n)) n c = ss_W (S n) c := fun c hc => uv_sn hc
  obtain ⟨o, ho'⟩ : ∃ o, ss_O (S n) = o + 1 := ⟨ss_O (S n) - 1, by omega⟩
  have ed1 : ∀ c, c < ss_O (S n) → ss_fd (uv_st (ss_K (S n)) (ss_O (S n)) 4) c = ss_fd (ss_K (S n)) c := fun c hc => ss_fd_cg (fun d _ hd => eK d (by omega))
  have ed : ∀ c, c ≤ ss_O (S n) → ss_fd (uv_st (ss_K (S n)) (ss_O (S n)) 4) c = ss_fd (ss_K (S n)) c := fun c hc => by
    by_cases c2 : c = ss_O (S n)
    · have k1 : uv_st (ss_K (S n)) (ss_O (S n)) 4 (o + 1) ≠ 5 := by rw [← ho', uv_se]; decide
      have k2 : ss_K (S n) (o + 1) ≠ 5 := by rw [← ho']; exact hk5
      rw [c2, ho', ss_fd_sn k2, ← ho', ← ed1 o (by omega), ho']
      rw [ho'] at k1
      exact ss_fd_sn k1
    · exact ed1 c (by omega)
  have eo : ∀ j, ss_ow (uv_st (ss_K (S n)) (ss_O (S n)) 4) (ss_C (S n)) j (ss_O (S n)) = ss_ow (ss_K (S n)) (ss_C (S n)) j (ss_O (S n)) := fun j => by
    rw [ss_ow_cut (c := o) (i := ss_O (S n)) (K := uv_st (ss_K (S n)) (ss_O (S n)) 4) (by omega) (fun d d1 d2 h5 => by
      have : d = ss_O (S n) := by omega
      rw [this, uv_se] at h5; exact absurd h5 (by decide))]
    rw [ss_ow_cut (c := o) (i := ss_O (S n)) (K := ss_K (S n)) (by omega) (fun d d1 d2 h5 => by
      have : d = ss_O (S n) := by omega
      rw [this] at h5; exact absurd h5 hk5)]
    exact ss_ow_cg (fun d _ hd => ⟨eK d (by omega), rfl⟩)
  unfold xc_S
  rw [e]
  rw [ss_els_O, ss_els_K, ss_els_F, ss_els_V, ss_els_W, ss_els_C, ss_els_P, ss_els_N, ed _ (Nat.le_refl _)]
  refine ⟨h1, h2, h3, rfl, fun i hi => ?_, fun i hi hk => ?_, fun j hj => ?_⟩
  · by_cases c : i = ss_O (S n) - 1
    · have : i + 1 = ss_O (S n) := by omega
      rw [this, c, pk_us, pk_us, uv_se, uv_se]
      have := (h5 i hi).2.2
      rw [show i + 1 = ss_O (S n) by omega, c] at this
      exact ⟨rfl, rfl, this⟩
    · rw [pk_un c, pk_un c, eK (i + 1) (by omega), eW (i + 1) (by omega)]
      exact h5 i hi
  · have c : i ≠ ss_O (S n) := fun z => by
      rw [z, uv_se] at hk
      rcases hk with y | y
      · omega
      · exact absurd y (by decide)
    rw [eK i c] at hk
    rw [ed i hi, eW i c]
    obtain ⟨a1, a2, a3⟩ := h6 i hi hk
    refine ⟨a1, a2, fun h0 => ?_⟩
    have := (hI.2.2.2.2.2.2.1 i (by omega) (by omega)).1
    rw [g.2 _ (by omega)]; exact a3 h0
  · have := (hI.2.2.2.2.2.2.1 (ss_O (S n)) ho (Nat.le_refl _)).2.1
    rw [eo j]
    exact h7 j (by omega)
theorem xc_enb (ho : 1 ≤ ss_O (S n)) (hk5 : ss_K (S n) (ss_O (S n)) ≠ 5) (hS : ss_S k a n S) (g : ss_ag n k a S k' a' S') (e : S' (n + 1) = ss_enb (S n)) (h : xc_S S n fc oc fd vc oK oW oV fO fF fP vN vO) :
    xc_S S' (n + 1) fc (nI (ss_O (S n) - 1)) fd (nI (ss_C (S n) (ss_O (S n)))) oK oW oV fO fF fP vN vO := by
  obtain ⟨h1, h2, h3, h4, h5, h6, h7⟩ := h
  have hI := ss_I_S hS n (Nat.le_refl _)
  obtain ⟨o, ho'⟩ : ∃ o, ss_O (S n) = o + 1 := ⟨ss_O (S n) - 1, by omega⟩
  have ed : ss_fd (ss_K (S n)) (ss_O (S n) - 1) = ss_fd (ss_K (S n)) (ss_O (S n)) := by
    rw [ho'] at hk5 ⊢
    rw [Nat.add_sub_cancel, ss_fd_sn hk5]
  unfold xc_S
  rw [e]
  rw [ss_enb_O, ss_enb_K, ss_enb_F, ss_enb_V, ss_enb_W, ss_enb_C, ss_enb_P, ss_enb_N, ed]
  refine ⟨h1, rfl, h3, rfl, fun i hi => h5 i (by omega), fun i hi hk => ?_, fun j hj => ?_⟩
  · obtain ⟨a1, a2, a3⟩ := h6 i (by omega) hk
    refine ⟨a1, a2, fun h0 => ?_⟩
    have := (hI.2.2.2.2.2.2.1 i (by omega) (by omega)).1
    rw [g.2 _ (by omega)]; exact a3 h0
  · have := (hI.2.2.2.2.2.2.1 (ss_O (S n)) ho (Nat.le_refl _)).2.1
    have e2 : ss_ow (ss_K (S n)) (ss_C (S n)) j (ss_O (S n)) = ss_ow (ss_K (S n)) (ss_C (S n)) j (ss_O (S n) - 1) :=
      ss_ow_cut (by omega) (fun d d1 d2 h5 => by
        have : d = ss_O (S n) := by omega
        rw [this] at h5; exact absurd h5 hk5)
    rw [← e2]
    exact h7 j (by omega)
theorem xc_enf (ho : 1 ≤ ss_O (S n)) (hk5 : ss_K (S n) (ss_O (S n)) = 5) (hS : ss_S k a n S) (g : ss_ag n k a S k' a' S') (e : S' (n + 1) = ss_enf (S n)) (h : xc_S S n fc oc fd vc oK oW oV fO fF fP vN vO) :
    ss_fd (ss_K (S n)) (ss_O (S n)) = ss_fd (ss_K (S n)) (ss_O (S n) - 1) + 1 ∧
    fO (ss_fd (ss_K (S n)) (ss_O (S n) - 1)) = nI (ss_P (S n) (ss_fx (ss_K (S n)) (ss_O (S n) - 1))) ∧
    xc_S S' (n + 1) fc (nI (ss_O (S n) - 1)) (nI (ss_fd (ss_K (S n)) (ss_O (S n) - 1))) (nI (ss_C (S n) (ss_O (S n)))) oK oW oV
      (upd fO (ss_fd (ss_K (S n)) (ss_O (S n) - 1)) (nI (ss_P (S n) (ss_fx (ss_K (S n)) (ss_O (S n) - 1)) + 1))) fF fP vN vO := by
  obtain ⟨h1, h2, h3, h4, h5, h6, h7⟩ := h
  have hI := ss_I_S hS n (Nat.le_refl _)
  obtain ⟨o, ho'⟩ : ∃ o, ss_O (S n) = o + 1 := ⟨ss_O (S n) - 1, by omega⟩
  have ed : ss_fd (ss_K (S n)) (ss_O (S n)) = ss_fd (ss_K (S n)) (ss_O (S n) - 1) + 1 := by
    rw [ho'] at hk5 ⊢
    rw [Nat.add_sub_cancel, ss_fd_s5 hk5]
  have hfk : ss_fx (ss_K (S n)) (ss_O (S n) - 1) = 0 ∨ ss_K (S n) (ss_fx (ss_K (S n)) (ss_O (S n) - 1)) = 5 := by
    rcases ss_fx_k (ss_K (S n)) (ss_O (S n) - 1) with z | z
    · exact Or.inl z
    · exact Or.inr z.2
  have hfl := ss_fx_le (ss_K (S n)) (ss_O (S n) - 1)
  have top := (h6 _ (by omega) hfk).1
  rw [ss_fd_fx] at top
  refine ⟨ed, top, ?_⟩
  unfold xc_S
  rw [e]
  rw [ss_enf_O, ss_enf_K, ss_enf_F, ss_enf_V, ss_enf_W, ss_enf_C, ss_enf_P, ss_enf_N]
  refine ⟨h1, rfl, rfl, rfl, fun i hi => h5 i (by omega), fun i hi hk => ?_, fun j hj => ?_⟩
  · obtain ⟨a1, a2, a3⟩ := h6 i (by omega) hk
    refine ⟨?_, a2, fun h0 => ?_⟩
    · by_cases c : i = ss_fx (ss_K (S n)) (ss_O (S n) - 1)
      · rw [c, uv_se, ss_fd_fx, pk_us]
      · rw [uv_sn c, pk_un (fun z => c (ss_fd_inj hk hfk (by rw [ss_fd_fx]; exact z)))]; exact a1
    · have := (hI.2.2.2.2.2.2.1 i (by omega) (by omega)).1
      rw [g.2 _ (by omega)]; exact a3 h0
  · have hC := (hI.2.2.2.2.2.2.1 (ss_O (S n)) ho (Nat.le_refl _)).2.1
    have e2 : ss_ow (ss_K (S n)) (ss_C (S n)) j (ss_O (S n)) = ss_ow (ss_K (S n)) (ss_C (S n)) j (ss_O (S n) - 1) :=
      ss_ow_cut (by omega) (fun d d1 d2 h5 => by
        have : d = ss_O (S n) := by omega
        rw [this]; exact hj)
    rw [← e2]
    exact h7 j (by omega)
end
end
section
/-! the component's code, a word more -/
section
variable {n : Nat} {k a k' a' : Nat → Int32} {S S' : Nat → ss_T} {cd aa ab tg pe ps cd' aa' ab' tg' pe' ps' : Nat → Int32}
theorem pg_tg {k a : Int32} {s : ss_T} {cd aa ab tg tg' : Int32} (h : pg_W k a s cd aa ab tg) (h7 : k ≠ 7) (h10 : k ≠ 10) : pg_W k a s cd aa ab tg' := by
  obtain ⟨a1, a2, a3, a4, a5, a6, a7, a8, a9, a10, a11⟩ := h
  exact ⟨a1, a2, a3, a4, a5, a6, a7, fun z => absurd z h7, a9, a10, fun z => absurd z h10⟩
theorem pg_gen (hS : ss_S k a n S) (hS' : ss_S k' a' (n + 1) S') (g : ss_ag n k a S k' a' S') (hP : pg_P k a S n cd aa ab tg pe ps)
    (h1 : pg_W (k' n) (a' n) (S n) (cd' n) (aa' n) (ab' n) (tg' n))
    (h2 : ∀ p, p < n → cd' p = cd p ∧ aa' p = aa p ∧ ab' p = ab p)
    (h3 : ∀ p, p < n → ¬ ss_cl k' S' p n → tg' p = tg p)
    (h4 : ∀ w, ss_cl k' S' w n → tg' w = nI (n + 1))
    (h5 : ∀ w, w < n + 1 → k' w = 4 → pe' (ss_F (S' w)) = nI (w + 1) ∧
      ∀ m, m < 8 → (ss_cap k' a' S' (n + 1) w (nI m) → ps' (ss_F (S' w) * 8 + m) = ss_sc (S' w) (nI m)) ∧ (¬ ss_cap k' a' S' (n + 1) w (nI m) → ps' (ss_F (S' w) * 8 + m) = -2)) :
    pg_P k' a' S' (n + 1) cd' aa' ab' tg' pe' ps' := by
  obtain ⟨p1, p2, p3⟩ := hP
  refine ⟨fun p hp => ?_, fun w q hq c => ?_, h5⟩
  · by_cases e : p = n
    · subst e; rw [g.2 p (Nat.le_refl _)]; exact h1
    · have hp' : p < n := by omega
      obtain ⟨e1, e2, e3⟩ := h2 p hp'
      rw [e1, e2, e3, (g.1 p hp').1, (g.1 p hp').2, g.2 p (by omega)]
      by_cases c : ss_cl k' S' p n
      · have hk := ss_kw hS' (p := n) (by omega) c.2
        rw [(g.1 p hp').1] at hk
        refine pg_tg (p1 p hp') ?_ ?_
        · rcases hk with z | z | z <;> rw [z.1] <;> decide
        · rcases hk with z | z | z <;> rw [z.1] <;> decide
      · rw [h3 p hp' c]; exact p1 p hp'
  · by_cases e : q = n
    · subst e; exact h4 w c
    · have hq' : q < n := by omega
      have hw := ss_on_lt hS' (p := q) (by omega) c.2
      have nc : ¬ ss_cl k' S' w n := fun z => e (ss_cl_uniq hS' (by omega) (by omega) c z)
      rw [h3 w (by omega) nc]
      exact p2 w q hq' ((ss_ag_cl g hq').mp c)
/-- the functions' table where the word takes nothing from outside -/
theorem pg_h5 (g : ss_ag n k a S k' a' S') (hP : pg_P k a S n cd aa ab tg pe ps) (h4 : k' n ≠ 4)
    (hc : (k' n = 1 ∨ k' n = 6) → ∀ c, 1 ≤ c → c ≤ ss_O (S n) → ss_K (S n) c = 5 → ss_C (S n) c < ss_l (S n) (a' n)) :
    ∀ w, w < n + 1 → k' w = 4 → pe (ss_F (S' w)) = nI (w + 1) ∧
      ∀ m, m < 8 → (ss_cap k' a' S' (n + 1) w (nI m) → ps (ss_F (S' w) * 8 + m) = ss_sc (S' w) (nI m)) ∧ (¬ ss_cap k' a' S' (n + 1) w (nI m) → ps (ss_F (S' w) * 8 + m) = -2) := by
  intro w hw hk
  have e : w ≠ n := fun z => by rw [z] at hk; exact h4 hk
  have hw' : w < n := by omega
  rw [(g.1 w hw').1] at hk
  rw [g.2 w (by omega)]
  obtain ⟨q1, q2⟩ := hP.2.2 w hw' hk
  refine ⟨q1, fun m hm => ?_⟩
  have ec : ss_cap k' a' S' (n + 1) w (nI m) ↔ ss_cap k a S n w (nI m) := by
    rw [ss_cap_s, ss_ag_cap g]
    constructor
    · rintro (z | ⟨z1, z2, c, c1, c2, c3, _, c5⟩)
      · exact z
      · rw [g.2 n (Nat.le_refl _)] at c2 c3 c5
        have := hc z1 c c1 c2 c3
        rw [z2] at this
        omega
    · exact Or.inl
  rw [ec]; exact q2 m hm
/-- the words that end nothing -/
theorem pg_no {w : Nat} (h : k' n ≠ 9) (h' : k' n ≠ 10) : ¬ ss_cl k' S' w n := fun z => by
  rcases z.1 with y | y
  · exact h y
  · exact h' y
/-- a plain word: nothing ends, nothing is taken, no function -/
theorem pg_pl {x y c1 a1 b1 t1 : Int32} {t : ss_T} (hS : ss_S k a n S) (hR : ss_R x y n (S n) t) (hP : pg_P k a S n cd aa ab tg pe ps)
    (h1 : pg_W x y (S n) c1 a1 b1 t1) (h9 : x ≠ 9) (h10 : x ≠ 10) (h4 : x ≠ 4)
    (hc : (x = 1 ∨ x = 6) → ∀ c, 1 ≤ c → c ≤ ss_O (S n) → ss_K (S n) c = 5 → ss_C (S n) c < ss_l (S n) y) :
    pg_P (upd k n x) (upd a n y) (uv_st S (n + 1) t) (n + 1) (upd cd n c1) (upd aa n a1) (upd ab n b1) (upd tg n t1) pe ps := by
  have g : ss_ag n k a S (upd k n x) (upd a n y) (uv_st S (n + 1) t) := ss_ag_new
  refine pg_gen hS (ss_S_new hS hR) g hP ?_ ?_ ?_ ?_ ?_
  · rw [pk_us, pk_us, pk_us, pk_us, pk_us, pk_us]; exact h1
  · intro p hp
    rw [pk_un (by omega), pk_un (by omega), pk_un (by omega)]; exact ⟨rfl, rfl, rfl⟩
  · intro p hp _; exact pk_un (by omega)
  · intro w c; exact absurd c (pg_no (by rw [pk_us]; exact h9) (by rw [pk_us]; exact h10))
  · exact pg_h5 g hP (by rw [pk_us]; exact h4) (by rw [pk_us, pk_us]; exact hc)
/-- a word that takes a name from outside -/
theorem pg_cp {x c1 a1 b1 t1 : Int32} {t : ss_T} {m0 : Nat} (hm0 : m0 < 8) (hS : ss_S k a n S) (hR : ss_R x (nI m0) n (S n) t) (hP : pg_P k a S n cd aa ab tg pe ps)
    (h1 : pg_W x (nI m0) (S n) c1 a1 b1 t1) (hx : x = 1 ∨ x = 6)
    (hps : ∀ w, w < n → k w = 4 → ∀ m, m < 8 → ((m = m0 ∧ ∃ c, 1 ≤ c ∧ c ≤ ss_O (S n) ∧ ss_K (S n) c = 5 ∧ ss_W (S n) c = w ∧ ss_l (S n) (nI m0) ≤ ss_C (S n) c) → ps' (ss_F (S w) * 8 + m) = ss_sc (S w) (nI m)) ∧
      (¬ (m = m0 ∧ ∃ c, 1 ≤ c ∧ c ≤ ss_O (S n) ∧ ss_K (S n) c = 5 ∧ ss_W (S n) c = w ∧ ss_l (S n) (nI m0) ≤ ss_C (S n) c) → ps' (ss_F (S w) * 8 + m) = ps (ss_F (S w) * 8 + m))) :
    pg_P (upd k n x) (upd a n (nI m0)) (uv_st S (n + 1) t) (n + 1) (upd cd n c1) (upd aa n a1) (upd ab n b1) (upd tg n t1) pe ps' := by
  have g : ss_ag n k a S (upd k n x) (upd a n (nI m0)) (uv_st S (n + 1) t) := ss_ag_new
  have h9 : x ≠ 9 := by rcases hx with z | z <;> rw [z] <;> decide
  have h10 : x ≠ 10 := by rcases hx with z | z <;> rw [z] <;> decide
  have h4 : x ≠ 4 := by rcases hx with z | z <;> rw [z] <;> decide
  refine pg_gen hS (ss_S_new hS hR) g hP ?_ ?_ ?_ ?_ ?_
  · rw [pk_us, pk_us, pk_us, pk_us, pk_us, pk_us]; exact h1
  · intro p hp
    rw [pk_un (by omega), pk_un (by omega), pk_un (by omega)]; exact ⟨rfl, rfl, rfl⟩
  · intro p hp _; exact pk_un (by omega)
  · intro w c; exact absurd c (pg_no (by rw [pk_us]; exact h9) (by rw [pk_us]; exact h10))
  · intro w hw hk
    have e : w ≠ n := fun z => by rw [z, pk_us] at hk; exact h4 hk
    have hw' : w < n := by omega
    rw [(g.1 w hw').1] at hk
    rw [g.2 w (by omega)]
    obtain ⟨q1, q2⟩ := hP.2.2 w hw' hk
    refine ⟨q1, fun m hm => ?_⟩
    obtain ⟨r1, r2⟩ := hps w hw' hk m hm
    have ec : ss_cap (upd k n x) (upd a n (nI m0)) (uv_st S (n + 1) t) (n + 1) w (nI m) ↔ ss_cap k a S n w (nI m) ∨ (m = m0 ∧ ∃ c, 1 ≤ c ∧ c ≤ ss_O (S n) ∧ ss_K (S n) c = 5 ∧ ss_W (S n) c = w ∧ ss_l (S n) (nI m0) ≤ ss_C (S n) c) := by
      rw [ss_cap_s, ss_ag_cap g, pk_us, pk_us, g.2 n (Nat.le_refl _)]
      constructor
      · rintro (z | ⟨_, z2, z3⟩)
        · exact Or.inl z
        · have : m0 = m := (nI_eq (by omega) (by omega)).mp z2
          subst this
          exact Or.inr ⟨rfl, z3⟩
      · rintro (z | ⟨rfl, z3⟩)
        · exact Or.inl z
        · exact Or.inr ⟨hx, rfl, z3⟩
    rw [ec]
    by_cases z : (m = m0 ∧ ∃ c, 1 ≤ c ∧ c ≤ ss_O (S n) ∧ ss_K (S n) c = 5 ∧ ss_W (S n) c = w ∧ ss_l (S n) (nI m0) ≤ ss_C (S n) c)
    · exact ⟨fun _ => r1 z, fun y => absurd (Or.inr z) y⟩
    · rw [r2 z]
      refine ⟨fun y => ?_, fun y => (q2 m hm).2 (fun y' => y (Or.inl y'))⟩
      rcases y with y | y
      · exact (q2 m hm).1 y
      · exact absurd y z
/-- a function word -/
theorem pg_fn {y c1 a1 b1 t1 : Int32} {t : ss_T} (hS : ss_S k a n S) (hR : ss_R 4 y n (S n) t) (hP : pg_P k a S n cd aa ab tg pe ps)
    (h1 : pg_W 4 y (S n) c1 a1 b1 t1)
    (hps : ∀ i, (ss_F (S n) * 8 ≤ i ∧ i < ss_F (S n) * 8 + 8 → ps' i = -2) ∧ (i < ss_F (S n) * 8 → ps' i = ps i)) :
    pg_P (upd k n 4) (upd a n y) (uv_st S (n + 1) t) (n + 1) (upd cd n c1) (upd aa n a1) (upd ab n b1) (upd tg n t1) (upd pe (ss_F (S n)) (nI (n + 1))) ps' := by
  have g : ss_ag n k a S (upd k n 4) (upd a n y) (uv_st S (n + 1) t) := ss_ag_new
  refine pg_gen hS (ss_S_new hS hR) g hP ?_ ?_ ?_ ?_ ?_
  · rw [pk_us, pk_us, pk_us, pk_us, pk_us, pk_us]; exact h1
  · intro p hp
    rw [pk_un (by omega), pk_un (by omega), pk_un (by omega)]; exact ⟨rfl, rfl, rfl⟩
  · intro p hp _; exact pk_un (by omega)
  · intro w c; exact absurd c (pg_no (by rw [pk_us]; decide) (by rw [pk_us]; decide))
  · intro w hw hk
    by_cases e : w = n
    · subst e
      rw [g.2 w (Nat.le_refl _), pk_us]
      refine ⟨rfl, fun m hm => ?_⟩
      have nc : ¬ ss_cap (upd k w 4) (upd a w y) (uv_st S (w + 1) t) (w + 1) w (nI m) := by
        rintro ⟨p, c, hp, hk1, _, c1, c2, _, c4, _⟩
        by_cases e : p = w
        · rw [e, pk_us] at hk1
          exact absurd hk1 (by decide)
        · rw [g.2 p (by omega)] at c2 c4
          have := ((ss_I_S hS p (by omega)).2.2.2.2.2.2.1 c c1 c2).1
          omega
      refine ⟨fun z => absurd z nc, fun _ => (hps _).1 ⟨by omega, by omega⟩⟩
    · have hw' : w < n := by omega
      rw [(g.1 w hw').1] at hk
      have lt := ss_F_lt hS (p := n) (Nat.le_refl _) hw' hk
      rw [g.2 w (by omega), pk_un (by omega)]
      obtain ⟨q1, q2⟩ := hP.2.2 w hw' hk
      refine ⟨q1, fun m hm => ?_⟩
      have ec : ss_cap (upd k n 4) (upd a n y) (uv_st S (n + 1) t) (n + 1) w (nI m) ↔ ss_cap k a S n w (nI m) := by
        rw [ss_cap_s, ss_ag_cap g, pk_us]
        constructor
        · rintro (z | ⟨z1, _⟩)
          · exact z
          · exact absurd z1 (by decide)
        · exact Or.inl
      rw [ec, (hps (ss_F (S w) * 8 + m)).2 (by omega)]
      exact q2 m hm
/-- a word that ends a part -/
theorem pg_en {x y c1 a1 b1 t1 : Int32} {t : ss_T} (hS : ss_S k a n S) (hR : ss_R x y n (S n) t) (hP : pg_P k a S n cd aa ab tg pe ps)
    (h1 : pg_W x y (S n) c1 a1 b1 t1) (hx : x = 9 ∨ x = 10) (ho : 1 ≤ ss_O (S n)) :
    pg_P (upd k n x) (upd a n y) (uv_st S (n + 1) t) (n + 1) (upd cd n c1) (upd aa n a1) (upd ab n b1) (upd (upd tg n t1) (ss_W (S n) (ss_O (S n))) (nI (n + 1))) pe ps := by
  have g : ss_ag n k a S (upd k n x) (upd a n y) (uv_st S (n + 1) t) := ss_ag_new
  have hw := ((ss_I_S hS n (Nat.le_refl _)).2.2.2.2.2.2.1 (ss_O (S n)) ho (Nat.le_refl _)).1
  have ecl : ∀ w, ss_cl (upd k n x) (uv_st S (n + 1) t) w n ↔ w = ss_W (S n) (ss_O (S n)) := by
    intro w
    unfold ss_cl ss_on
    rw [pk_us, g.2 n (Nat.le_refl _)]
    constructor
    · rintro ⟨_, _, _, z⟩; exact z.symm
    · intro z; exact ⟨hx, ho, Nat.le_refl _, z.symm⟩
  refine pg_gen hS (ss_S_new hS hR) g hP ?_ ?_ ?_ ?_ ?_
  · rw [pk_us, pk_us, pk_us, pk_us, pk_us, pk_un (by omega), pk_us]; exact h1
  · intro p hp
    rw [pk_un (by omega), pk_un (by omega), pk_un (by omega)]; exact ⟨rfl, rfl, rfl⟩
  · intro p hp nc
    rw [ecl] at nc
    rw [pk_un nc, pk_un (by omega)]
  · intro w c
    rw [ecl] at c
    rw [c, pk_us]
  · refine pg_h5 g hP ?_ ?_
    · rw [pk_us]; rcases hx with z | z <;> rw [z] <;> decide
    · rw [pk_us]; intro z; rcases hx with y | y <;> rw [y] at z <;> exact absurd z (by decide)
end
end
section
/-! states by two functions: fields and arrays -/
def uv_X (F : Nat → Int32) (A : Nat → Nat → Int32) : SX := (F 0, F 1, F 2, F 3, F 4, F 5, F 6, F 7, F 8, F 9, F 10, F 11, F 12, F 13, F 14, F 15, F 16, F 17, F 18, F 19, F 20, F 21, F 22, F 23, F 24, F 25, F 26, F 27, F 28, F 29, F 30, F 31, F 32, F 33, F 34, F 35, F 36, F 37, F 38, F 39, F 40, F 41, F 42, F 43, F 44, A 0, A 1, A 2, A 3, A 4, A 5, A 6, A 7, A 8, A 9, A 10, A 11, A 12, A 13, A 14, A 15, A 16, A 17, A 18, A 19, A 20, A 21, A 22, A 23, A 24, A 25, A 26)
def uv_Y (G : Nat → Int32) (B : Nat → Nat → Int32) : SY := (G 0, G 1, G 2, G 3, G 4, G 5, G 6, G 7, G 8, G 9, G 10, G 11, G 12, G 13, G 14, G 15, G 16, G 17, G 18, B 0, B 1, B 2, B 3, B 4, B 5, B 6, B 7, B 8, B 9, B 10, B 11, B 12, B 13, B 14, B 15, B 16, B 17, B 18, B 19, B 20, B 21, B 22, B 23)
theorem xw_setResult {post : SX → Prop} {F : Nat → Int32} {A : Nat → Nat → Int32} {x y : Int32} (h : post (uv_X (uv_st (uv_st F 34 (x)) 35 (y)) A)) : wpX_setResult post (uv_X F A) x y := h
theorem xw_addWord {post : SX → Prop} {F : Nat → Int32} {A : Nat → Nat → Int32} {n : Nat} {p0 p1 p2 p3 : Int32} (hn : (F 28) = nI n) (h96 : n < 96)
    (h : post (uv_X (uv_st F 28 (nI (n + 1))) (uv_st (uv_st (uv_st (uv_st A 0 (upd (A 0) n p0)) 1 (upd (A 1) n p1)) 2 (upd (A 2) n p2)) 3 (upd (A 3) n p3)))) :
    wpX_addWord post (uv_X F A) p0 p1 p2 p3 := by
  have i1 : vp_in ((F 28)) 96 := by rw [hn]; exact vp_in_nI h96 (by omega)
  have i2 : ((F 28)).toNatClampNeg = n := by rw [hn]; exact nI_clamp (by omega)
  have i3 : (F 28) + 1 = nI (n + 1) := by rw [hn]; exact nI_1 n
  unfold wpX_addWord uv_X
  simp only [i1, i2, i3, forall_eq, true_and]
  exact h
end
section
/-! the relation of a session, quiet or running -/
/-- a value: a number, or a closure that there is -/
def rr_v (cc : Nat) (x y : Int32) : Prop := x = 0 ∨ (x = 1 ∧ ∃ t, t < cc ∧ y = nI t)
/-- E j: the environment of the first j variables of s -/
def ev_E (E : Nat → Int32) (nd : Nat) (nP nN : Nat → Int32) (s : ss_T) : Prop :=
  E 0 = -1 ∧ ∀ j, j < ss_V s → ∃ v, v < nd ∧ E (j + 1) = nI v ∧ nP v = E j ∧ nN v = ss_N s j
def rr_C (k a : Nat → Int32) (S : Nat → ss_T) (n : Nat) (N : Nat → Nat) (uc nd : Nat) (E : Nat → Int32) (clw cle cpr : Int32) (cu : Nat → Int32) (t : Nat) (nP nN : Nat → Int32) : Prop :=
  ∃ W, clw = nI W ∧ W < n ∧ k W = 4 ∧ (∀ i, ¬ ss_on S n W i) ∧ cpr = nI (ss_F (S W)) ∧ cle = E (ss_V (S W)) ∧ ev_E E nd nP nN (S W) ∧
    ∀ m, m < 8 → (ss_cap k a S n W (nI m) → ∃ u, u < uc ∧ cu (t * 8 + m) = nI u ∧ E (ss_l (S W) (nI m)) = nI (N u)) ∧ (¬ ss_cap k a S n W (nI m) → cu (t * 8 + m) = -1)
def rr_L (n cc : Nat) (F G : Nat → Int32) : Prop :=
  ∃ mw mf md mc : Nat, (F 24) = nI mw ∧ (G 0) = nI mw ∧ n ≤ mw ∧ mw ≤ 96 ∧ (F 25) = nI mf ∧ (G 1) = nI mf ∧ mf ≤ 160 ∧
    (F 26) = nI md ∧ (G 2) = nI md ∧ md ≤ 12 ∧ (F 27) = nI mc ∧ (G 3) = nI mc ∧ mc ≤ 32 ∧ cc ≤ mc ∧ (F 28) = nI n ∧ (G 4) = nI n
def rr_N (uc nd cc fu ou : Nat) (F G : Nat → Int32) : Prop :=
  (F 38) = nI uc ∧ (G 14) = nI nd ∧ nd + fu ≤ 160 ∧ (F 37) = nI cc ∧ (G 13) = nI cc ∧ (F 36) = nI fu ∧ (G 12) = nI fu ∧
    (F 33) = nI ou ∧ (G 9) = nI ou ∧ ou ≤ 24 ∧ (F 34) = (G 10) ∧ (F 35) = (G 11)
def rr_O (cc ou : Nat) (xk xv yk yv : Nat → Int32) : Prop := ∀ i, i < ou → xk i = yk i ∧ xv i = yv i ∧ rr_v cc (yk i) (yv i)
def rr_B (S : Nat → ss_T) (n : Nat) (rn N g : Nat → Nat) (uc nd cc fu ou : Nat) (EC : Nat → Nat → Int32) (F : Nat → Int32) (A : Nat → Nat → Int32) (G : Nat → Int32) (B : Nat → Nat → Int32) : Prop :=
  ss_S (B 0) (B 1) n S ∧ rr_L n cc F G ∧
  pg_P (B 0) (B 1) S n (A 0) (A 1) (A 2) (A 3) (A 4) (A 5) ∧
  xc_S S n (F 29) (F 30) (F 31) (F 32) (A 6) (A 7) (A 8) (A 9) (A 10) (A 11) (A 12) (A 13) ∧
  hp_H rn N g uc nd (F 39) (A 18) (A 19) (A 20) (A 21) (A 22) (A 23) (B 13) (B 14) ∧
  rr_N uc nd cc fu ou F G ∧ rr_O cc ou (A 14) (A 15) (B 8) (B 9) ∧ (∀ v, v < nd → rr_v cc ((B 13) v) ((B 14) v)) ∧
  (∀ t, t < cc → rr_C (B 0) (B 1) S n N uc nd (EC t) ((B 10) t) ((B 11) t) ((A 16) t) (A 17) t (B 15) (B 12))
/-- a frame of the reference -/
def fr_Y (s : ss_T) (c o : Nat) (E : Nat → Int32) (nd : Nat) (env ops blocks bW bE nP nN : Nat → Int32) : Prop :=
  ops c = nI o ∧ blocks c = nI (ss_O s - ss_f s) ∧ env c = E (ss_V s) ∧ ev_E E nd nP nN s ∧
  ∀ i, ss_f s < i → i ≤ ss_O s → bW (c * 10 + (i - ss_f s - 1)) = nI (ss_W s i) ∧ bE (c * 10 + (i - ss_f s - 1)) = E (ss_C s i)
/-- a frame's registers -/
def fr_X (s : ss_T) (c o b cc : Nat) (E : Nat → Int32) (rn : Nat → Nat) (oK oV rk rv : Nat → Int32) : Prop :=
  (∀ l, l < ss_L s → rn (b + l) ≠ 0 ∧ E (ss_C s (ss_f s) + l + 1) = nI (rn (b + l) - 1)) ∧
  (∀ i, i < o → oK (c * 6 + i) = rk (b + ss_L s + i) ∧ oV (c * 6 + i) = rv (b + ss_L s + i) ∧ rr_v cc (oK (c * 6 + i)) (oV (c * 6 + i))) ∧
  (∀ i, i ≤ o → rn (b + ss_L s + i) = 0)
/-- whose body the frame runs -/
def fr_Z (S : Nat → ss_T) (n : Nat) (s : ss_T) (cc : Nat) (E : Nat → Int32) (EC : Nat → Nat → Int32) (slf : Int32) (clw : Nat → Int32) : Prop :=
  (ss_f s = 0 ∧ slf = -1 ∧ ss_O (S n) = 0) ∨ (ss_f s ≠ 0 ∧ ∃ t, t < cc ∧ slf = nI t ∧ clw t = nI (ss_W s (ss_f s)) ∧ ∀ j, j ≤ ss_C s (ss_f s) → E j = EC t j)
/-- frame c of top + 1 -/
def rr_f (S : Nat → ss_T) (n : Nat) (rn : Nat → Nat) (nd cc : Nat) (EC : Nat → Nat → Int32) (top : Nat) (pcs bas oo : Nat → Nat) (slf : Nat → Int32) (EE : Nat → Nat → Int32) (A B : Nat → Nat → Int32) (c : Nat) : Prop :=
  pcs c ≤ n ∧ (B 16) c = nI (pcs c) ∧ bas c ≤ 13 * c ∧ fr_Z S n (S (pcs c)) cc (EE c) EC (slf c) (B 10) ∧
  fr_Y (S (pcs c)) c (oo c) (EE c) nd (B 17) (B 18) (B 19) (B 22) (B 23) (B 15) (B 12) ∧
  fr_X (S (pcs c)) c (oo c) (bas c) cc (EE c) rn (B 20) (B 21) (A 22) (A 23) ∧
  oo c + (if c = top then 0 else 1) = ss_Q (S (pcs c)) ∧ (c < top → bas (c + 1) = bas c + ss_L (S (pcs c)) + oo c + 1)
def rr_F (S : Nat → ss_T) (n : Nat) (rn : Nat → Nat) (nd cc : Nat) (EC : Nat → Nat → Int32) (top : Nat) (pcs bas oo : Nat → Nat) (slf : Nat → Int32) (EE : Nat → Nat → Int32) (F : Nat → Int32) (A : Nat → Nat → Int32) (G : Nat → Int32) (B : Nat → Nat → Int32) : Prop :=
  top < 12 ∧ (G 15) = nI (top + 1) ∧ (F 43) = nI (top + 1) ∧ (F 44) = 1 ∧ (G 16) = 0 ∧ (F 40) = nI (pcs top) ∧ (F 41) = nI (bas top) ∧ (F 42) = slf top ∧
  (∀ c, c < top → (A 24) c = nI (pcs c) ∧ (A 25) c = nI (bas c) ∧ (A 26) c = slf c) ∧
  (∀ r, bas top + ss_L (S (pcs top)) ≤ r → rn r = 0) ∧
  (∀ c, c ≤ top → rr_f S n rn nd cc EC top pcs bas oo slf EE A B c)
/-- steps left -/
def rr_mu (n : Nat) (pcs : Nat → Nat) : Nat → Nat
  | 0 => 0
  | m + 1 => rr_mu n pcs m + (n + 1 - pcs m)
/-- a state of a run, by its measure -/
def rr_R (mu : Nat) (F : Nat → Int32) (A : Nat → Nat → Int32) (G : Nat → Int32) (B : Nat → Nat → Int32) : Prop :=
  ∃ S n rn N g uc nd cc fu ou EC top pcs bas oo slf EE, rr_B S n rn N g uc nd cc fu ou EC F A G B ∧ rr_F S n rn nd cc EC top pcs bas oo slf EE F A G B ∧ mu = 97 * fu + rr_mu n pcs (top + 1)
/-- a state between calls, or behind the last step of a run -/
def rr_Q (F : Nat → Int32) (A : Nat → Nat → Int32) (G : Nat → Int32) (B : Nat → Nat → Int32) : Prop :=
  ∃ S n rn N g uc nd cc fu ou EC, rr_B S n rn N g uc nd cc fu ou EC F A G B
/-- one step of both, from a state of measure mu -/
def rr_step (mu : Nat) (F : Nat → Int32) (A : Nat → Nat → Int32) (G : Nat → Int32) (B : Nat → Nat → Int32) : Prop :=
  ∃ (r : Int32) (F' : Nat → Int32) (A' : Nat → Nat → Int32) (G' : Nat → Int32) (B' : Nat → Nat → Int32),
    (∀ post : Int32 → SX → Prop, post r (uv_X F' A') → wpX_step post (uv_X F A)) ∧
    (∀ post : SY → Prop, post (uv_Y G' B') → wpY_step post (uv_Y G B)) ∧
    ((r = 0 ∧ (F' 44) = 1 ∧ ∃ mu', mu' < mu ∧ rr_R mu' F' A' G' B') ∨
     (r = 0 ∧ (F' 44) = 0 ∧ (G' 15) = 0 ∧ (G' 16) = 0 ∧ rr_Q F' A' G' B') ∨
     (r ≠ 0 ∧ (G' 16) = r ∧ rr_Q F' A' G' B'))
end
section
/-! frames: what a step leaves alone -/
theorem rr_v_up {cc cc' : Nat} {x y : Int32} (h : rr_v cc x y) (hc : cc ≤ cc') : rr_v cc' x y := by
  rcases h with z | ⟨z, t, ht, e⟩
  · exact Or.inl z
  · exact Or.inr ⟨z, t, by omega, e⟩
theorem ev_up {E : Nat → Int32} {nd nd' : Nat} {nP nN nP' nN' : Nat → Int32} {s : ss_T} (h : ev_E E nd nP nN s) (hn : nd ≤ nd') (he : ∀ v, v < nd → nP' v = nP v ∧ nN' v = nN v) : ev_E E nd' nP' nN' s := by
  refine ⟨h.1, fun j hj => ?_⟩
  obtain ⟨v, h1, h2, h3, h4⟩ := h.2 j hj
  obtain ⟨e1, e2⟩ := he v h1
  exact ⟨v, by omega, h2, by rw [e1]; exact h3, by rw [e2]; exact h4⟩
/-- an environment read with other, equal names -/
theorem ev_cg {E E' : Nat → Int32} {nd : Nat} {nP nN : Nat → Int32} {s s' : ss_T} (h : ev_E E nd nP nN s) (hV : ss_V s' ≤ ss_V s) (hE : ∀ j, j ≤ ss_V s' → E' j = E j) (hN : ∀ j, j < ss_V s' → ss_N s' j = ss_N s j) : ev_E E' nd nP nN s' := by
  refine ⟨by rw [hE 0 (by omega)]; exact h.1, fun j hj => ?_⟩
  obtain ⟨v, h1, h2, h3, h4⟩ := h.2 j (by omega)
  exact ⟨v, h1, by rw [hE (j + 1) (by omega)]; exact h2, by rw [hE j (by omega)]; exact h3, by rw [hN j hj]; exact h4⟩
theorem rr_C_up {k a : Nat → Int32} {S : Nat → ss_T} {n : Nat} {N N' : Nat → Nat} {uc uc' nd nd' : Nat} {E : Nat → Int32} {clw cle cpr : Int32} {cu cu' : Nat → Int32} {t : Nat} {nP nN nP' nN' : Nat → Int32}
    (h : rr_C k a S n N uc nd E clw cle cpr cu t nP nN) (hu : uc ≤ uc') (hN : ∀ u, u < uc → N' u = N u) (hn : nd ≤ nd') (he : ∀ v, v < nd → nP' v = nP v ∧ nN' v = nN v) (hc : ∀ m, m < 8 → cu' (t * 8 + m) = cu (t * 8 + m)) :
    rr_C k a S n N' uc' nd' E clw cle cpr cu' t nP' nN' := by
  obtain ⟨W, h1, h2, h3, h4, h5, h6, h7, h8⟩ := h
  refine ⟨W, h1, h2, h3, h4, h5, h6, ev_up h7 hn he, fun m hm => ?_⟩
  obtain ⟨a1, a2⟩ := h8 m hm
  rw [hc m hm]
  refine ⟨fun z => ?_, a2⟩
  obtain ⟨u, u1, u2, u3⟩ := a1 z
  exact ⟨u, by omega, u2, by rw [hN u u1]; exact u3⟩
section
variable {S : Nat → ss_T} {n : Nat} {rn rn' : Nat → Nat} {nd nd' cc cc' : Nat} {EC EC' : Nat → Nat → Int32} {top top' : Nat} {pcs bas oo pcs' bas' oo' : Nat → Nat} {slf slf' : Nat → Int32} {EE EE' : Nat → Nat → Int32} {A B A' B' : Nat → Nat → Int32} {c : Nat}
theorem rr_f_low {p : Nat} (hI : ss_I p (S (pcs c))) (h : rr_f S n rn nd cc EC top pcs bas oo slf EE A B c) (hc : c < top) (hc' : c < top')
    (e1 : pcs' c = pcs c) (e2 : bas' c = bas c) (e2' : bas' (c + 1) = bas (c + 1)) (e3 : oo' c = oo c) (e4 : slf' c = slf c) (e5 : EE' c = EE c)
    (hB : (B' 16) c = (B 16) c ∧ (B' 17) c = (B 17) c ∧ (B' 18) c = (B 18) c ∧ (B' 19) c = (B 19) c)
    (hb : ∀ i, i < 10 → (B' 22) (c * 10 + i) = (B 22) (c * 10 + i) ∧ (B' 23) (c * 10 + i) = (B 23) (c * 10 + i))
    (ho : ∀ i, i < 6 → (B' 20) (c * 6 + i) = (B 20) (c * 6 + i) ∧ (B' 21) (c * 6 + i) = (B 21) (c * 6 + i))
    (hr : ∀ r, r < bas (c + 1) → rn r = 0 → (A' 22) r = (A 22) r ∧ (A' 23) r = (A 23) r)
    (hn : ∀ r, r < bas (c + 1) → rn' r = rn r)
    (hnd : nd ≤ nd') (hnp : ∀ v, v < nd → (B' 15) v = (B 15) v ∧ (B' 12) v = (B 12) v)
    (hcc : cc ≤ cc') (hcl : ∀ t, t < cc → (B' 10) t = (B 10) t ∧ EC' t = EC t) :
    rr_f S n rn' nd' cc' EC' top' pcs' bas' oo' slf' EE' A' B' c := by
  obtain ⟨h1, h2, h3, h4, ⟨y1, y2, y3, y4, y5⟩, ⟨x1, x2, x3⟩, h7, h8⟩ := h
  have h8' := h8 hc
  have q6 := ss_Q6 hI
  rw [if_neg (by omega)] at h7
  have hO := hI.1
  unfold rr_f fr_Z fr_Y fr_X
  rw [e1, e2, e2', e3, e4, e5, hB.1, hB.2.1, hB.2.2.1, hB.2.2.2]
  refine ⟨h1, h2, h3, ?_, ⟨y1, y2, y3, ev_up y4 hnd hnp, ?_⟩, ⟨?_, ?_, ?_⟩, ?_, fun _ => h8'⟩
  · rcases h4 with z | ⟨z, t, t1, t2, t3, t4⟩
    · exact Or.inl z
    · refine Or.inr ⟨z, t, by omega, t2, ?_, ?_⟩
      · rw [(hcl t t1).1]; exact t3
      · rw [(hcl t t1).2]; exact t4
  · intro i i1 i2
    obtain ⟨b1, b2⟩ := hb (i - ss_f (S (pcs c)) - 1) (by omega)
    rw [b1, b2]; exact y5 i i1 i2
  · intro l hl
    rw [hn _ (by omega)]; exact x1 l hl
  · intro i hi
    obtain ⟨o1, o2⟩ := ho i (by omega)
    obtain ⟨r1, r2⟩ := hr (bas c + ss_L (S (pcs c)) + i) (by omega) (x3 i (by omega))
    obtain ⟨a1, a2, a3⟩ := x2 i hi
    rw [o1, o2, r1, r2]; exact ⟨a1, a2, rr_v_up a3 hcc⟩
  · intro i hi
    rw [hn _ (by omega)]; exact x3 i hi
  · rw [if_neg (by omega)]; exact h7
theorem rr_mu_cg {n : Nat} {pcs pcs' : Nat → Nat} : ∀ {m : Nat}, (∀ c, c < m → pcs' c = pcs c) → rr_mu n pcs' m = rr_mu n pcs m
  | 0, _ => rfl
  | m + 1, h => by
    unfold rr_mu
    rw [h m (by omega), rr_mu_cg (m := m) (fun c hc => h c (by omega))]
end
/-- two places with the same constructs and variables -/
def ss_eq (s s' : ss_T) : Prop := ss_O s' = ss_O s ∧ ss_V s' = ss_V s ∧ (∀ i, i ≤ ss_O s → ss_K s' i = ss_K s i ∧ ss_W s' i = ss_W s i ∧ ss_C s' i = ss_C s i) ∧ ∀ j, j < ss_V s → ss_N s' j = ss_N s j
theorem ss_eq_f {s s' : ss_T} (h : ss_eq s s') : ss_f s' = ss_f s := by
  show ss_fx (ss_K s') (ss_O s') = ss_fx (ss_K s) (ss_O s)
  rw [h.1]
  exact ss_fx_cg (fun c hc => (h.2.2.1 c hc).1)
theorem ss_eq_L {s s' : ss_T} (h : ss_eq s s') : ss_L s' = ss_L s := by
  show ss_V s' - ss_C s' (ss_f s') = ss_V s - ss_C s (ss_f s)
  rw [h.2.1, ss_eq_f h, (h.2.2.1 (ss_f s) (ss_f_le s)).2.2]
theorem ss_eq_smp (s : ss_T) (q : Nat) : ss_eq s (ss_smp s q) := ⟨rfl, rfl, fun _ _ => ⟨rfl, rfl, rfl⟩, fun _ _ => rfl⟩
theorem ss_smp_f (s : ss_T) (q : Nat) : ss_f (ss_smp s q) = ss_f s := rfl
theorem ss_smp_Q (s : ss_T) (q : Nat) : ss_Q (ss_smp s q) = q := by
  show uv_st (ss_P s) (ss_f s) q (ss_f s) = q
  exact uv_se
section
variable {S : Nat → ss_T} {n : Nat} {rn : Nat → Nat} {nd cc cc' : Nat} {EC EC' : Nat → Nat → Int32} {top : Nat} {pcs bas oo : Nat → Nat} {slf : Nat → Int32} {EE : Nat → Nat → Int32} {F F' G G' : Nat → Int32} {A B A' B' : Nat → Nat → Int32}
/-- a step within a frame that changes only its operands -/
theorem rr_F_smp {p q : Nat} (hS : ∀ p, p ≤ n → ss_I p (S p)) (h : rr_F S n rn nd cc EC top pcs bas oo slf EE F A G B) (hp : p ≤ n) (he : ss_eq (S (pcs top)) (S p)) (hq : q = ss_Q (S p))
    (f1 : (G' 15) = (G 15)) (f2 : (F' 43) = (F 43)) (f3 : (F' 44) = (F 44)) (f4 : (G' 16) = (G 16)) (f5 : (F' 40) = nI p) (f6 : (F' 41) = (F 41)) (f7 : (F' 42) = (F 42))
    (f8 : (A' 24) = (A 24)) (f9 : (A' 25) = (A 25)) (f10 : (A' 26) = (A 26))
    (b1 : (B' 16) top = nI p) (b1' : ∀ c, c < top → (B' 16) c = (B 16) c) (b2 : (B' 17) = (B 17)) (b3 : (B' 18) top = nI q) (b3' : ∀ c, c < top → (B' 18) c = (B 18) c) (b4 : (B' 19) = (B 19)) (b5 : (B' 22) = (B 22)) (b6 : (B' 23) = (B 23)) (b7 : (B' 15) = (B 15)) (b8 : (B' 12) = (B 12))
    (ho : ∀ i, i < top * 6 → (B' 20) i = (B 20) i ∧ (B' 21) i = (B 21) i)
    (ho2 : ∀ i, i < q → (B' 20) (top * 6 + i) = (A' 22) (bas top + ss_L (S (pcs top)) + i) ∧ (B' 21) (top * 6 + i) = (A' 23) (bas top + ss_L (S (pcs top)) + i) ∧ rr_v cc' ((B' 20) (top * 6 + i)) ((B' 21) (top * 6 + i)))
    (hr : ∀ r, r < bas top → rn r = 0 → (A' 22) r = (A 22) r ∧ (A' 23) r = (A 23) r)
    (hcc : cc ≤ cc') (hcl : ∀ t, t < cc → (B' 10) t = (B 10) t ∧ EC' t = EC t) :
    rr_F S n rn nd cc' EC' top (uv_st pcs top p) bas (uv_st oo top q) slf EE F' A' G' B' := by
  obtain ⟨g1, g2, g3, g4, g5, g6, g7, g8, g9, g10, g11⟩ := h
  have base : ∀ c, c < top → bas (c + 1) ≤ bas top := by
    intro c hc
    have mono : ∀ d, c + 1 + d ≤ top → bas (c + 1) ≤ bas (c + 1 + d) := by
      intro d
      induction d with
      | zero => intro _; exact Nat.le_refl _
      | succ d ih =>
        intro hd
        have := ih (by omega)
        have h8 := (g11 (c + 1 + d) (by omega)).2.2.2.2.2.2.2 (by omega)
        have e : c + 1 + (d + 1) = c + 1 + d + 1 := by omega
        rw [e]; omega
    have := mono (top - (c + 1)) (by omega)
    rw [show c + 1 + (top - (c + 1)) = top by omega] at this
    exact this
  refine ⟨g1, by rw [f1]; exact g2, by rw [f2]; exact g3, by rw [f3]; exact g4, by rw [f4]; exact g5, by rw [uv_se]; exact f5, by rw [f6]; exact g7, by rw [f7]; exact g8, ?_, ?_, ?_⟩
  · intro c hc
    rw [f8, f9, f10, uv_sn (by omega)]; exact g9 c hc
  · rw [uv_se, ss_eq_L he]; exact g10
  · intro c hc
    by_cases e : c = top
    · subst e
      obtain ⟨h1, h2, h3, h4, ⟨y1, y2, y3, y4, y5⟩, ⟨x1, x2, x3⟩, h7, h8⟩ := g11 c (Nat.le_refl _)
      unfold rr_f fr_Z fr_Y fr_X
      rw [uv_se, uv_se, ss_eq_f he, ss_eq_L he, he.1, he.2.1, b1, b2, b3, b4, b5, b6, b7, b8]
      have hfl := ss_f_le (S (pcs c))
      obtain ⟨k1, k2, k3⟩ := he.2.2.1 _ hfl
      rw [k2, k3]
      refine ⟨hp, rfl, h3, ?_, ⟨rfl, y2, y3, ?_, ?_⟩, ⟨x1, ho2, ?_⟩, ?_, fun z => by omega⟩
      · rcases h4 with z | ⟨z, t, t1, t2, t3, t4⟩
        · exact Or.inl z
        · refine Or.inr ⟨z, t, by omega, t2, ?_, ?_⟩
          · rw [(hcl t t1).1]; exact t3
          · rw [(hcl t t1).2]; exact t4
      · exact ev_cg y4 (by rw [he.2.1]; exact Nat.le_refl _) (fun _ _ => rfl) (fun j hj => he.2.2.2 j (by rw [← he.2.1]; exact hj))
      · intro i i1 i2
        obtain ⟨k1, k2, k3⟩ := he.2.2.1 i i2
        rw [k2, k3]; exact y5 i i1 i2
      · intro i hi; exact g10 _ (by omega)
      · rw [if_pos rfl, ← hq]; rfl
    · have hlt : c < top := by omega
      have hpc := (g11 c hc).1
      refine rr_f_low (hS (pcs c) hpc) (g11 c hc) hlt hlt (uv_sn e) rfl rfl (uv_sn e) rfl rfl ?_ ?_ ?_ ?_ (fun _ _ => rfl) (Nat.le_refl _) ?_ hcc hcl
      · rw [b1' c hlt, b2, b3' c hlt, b4]; exact ⟨rfl, rfl, rfl, rfl⟩
      · intro i hi; rw [b5, b6]; exact ⟨rfl, rfl⟩
      · intro i hi; exact ho _ (by omega)
      · intro r hr1 hr2
        have := base c hlt
        exact hr r (by omega) hr2
      · intro v _; rw [b7, b8]; exact ⟨rfl, rfl⟩
end
end
section
/-! the reference's helpers of execution -/
section
variable {post : SY → Prop} {G : Nat → Int32} {B : Nat → Nat → Int32} {c o : Nat} {x y : Int32}
theorem uv_6 (c o : Nat) : nI c * 6 + nI o = nI (c * 6 + o) := by
  show nI c * nI 6 + nI o = _
  rw [pk_mul, nI_add]
theorem uv_10 (c o : Nat) : nI c * 10 + nI o = nI (c * 10 + o) := by
  show nI c * nI 10 + nI o = _
  rw [pk_mul, nI_add]
theorem uv_8 (c o : Nat) : nI c * 8 + nI o = nI (c * 8 + o) := by
  show nI c * nI 8 + nI o = _
  rw [pk_mul, nI_add]
theorem uv_p1 {x : Int32} {c : Nat} (h : x = nI (c + 1)) : x - 1 = nI c := by rw [h]; exact nI_pred c
theorem yw_push (hf : (G 15) = nI (c + 1)) (hc : c < 12) (ho : (B 18) c = nI o) (ho6 : o < 6)
    (h : post (uv_Y G (uv_st (uv_st (uv_st B 20 (upd (B 20) (c * 6 + o) x)) 21 (upd (B 21) (c * 6 + o) y)) 18 (upd (B 18) c (nI (o + 1)))))) : wpY_push post (uv_Y G B) x y := by
  have i0 : (G 15) - 1 = nI c := uv_p1 hf
  have i1 : ¬ nI c < 0 := nI_pos (by omega)
  have i2 : vp_in (nI c) 12 := vp_in_nI hc (by omega)
  have i3 : (nI c).toNatClampNeg = c := nI_clamp (by omega)
  have i4 : nI o < 6 := nI_lt (b := 6) ho6 (by omega)
  have i5 := uv_6 c o
  have i6 : vp_in (nI (c * 6 + o)) 72 := vp_in_nI (by omega) (by omega)
  have i7 : (nI (c * 6 + o)).toNatClampNeg = c * 6 + o := nI_clamp (by omega)
  have i8 : nI o + 1 = nI (o + 1) := nI_1 o
  unfold wpY_push uv_Y
  simp only [i0, i1, i2, i3, ho, i4, i5, i6, i7, i8, eq_self, true_implies, false_implies, forall_eq, true_and, and_true, not_true_eq_false, not_false_eq_true]
  exact h
theorem yw_pop (hf : (G 15) = nI (c + 1)) (hc : c < 12) (ho : (B 18) c = nI (o + 1)) (ho6 : o < 6)
    (h : ∀ G' B', G' = (uv_st (uv_st G 17 ((B 20) (c * 6 + o))) 18 ((B 21) (c * 6 + o))) → B' = (uv_st B 18 (upd (B 18) c (nI o))) → post (uv_Y G' B')) : wpY_pop post (uv_Y G B) := by
  have i0 : (G 15) - 1 = nI c := uv_p1 hf
  have i1 : ¬ nI c < 0 := nI_pos (by omega)
  have i2 : vp_in (nI c) 12 := vp_in_nI hc (by omega)
  have i3 : (nI c).toNatClampNeg = c := nI_clamp (by omega)
  have i4 : 0 < nI (o + 1) := nI_lt (a := 0) (by omega) (by omega)
  have i5 := uv_6 c o
  have i6 : vp_in (nI (c * 6 + o)) 72 := vp_in_nI (by omega) (by omega)
  have i7 : (nI (c * 6 + o)).toNatClampNeg = c * 6 + o := nI_clamp (by omega)
  have i8 : nI (o + 1) - 1 = nI o := nI_pred o
  have i9 : upd ((B 18)) c (nI o) c = nI o := pk_us
  unfold wpY_pop uv_Y
  simp only [i0, i1, i2, i3, ho, i4, i8, i9, i5, i6, i7, eq_self, true_implies, false_implies, forall_eq, true_and, and_true, not_true_eq_false, not_false_eq_true]
  exact h _ _ rfl rfl
theorem yw_finish0 (hf : (G 15) = nI 1) (h : post (uv_Y (uv_st (uv_st (uv_st G 10 (x)) 11 (y)) 15 (0)) B)) : wpY_finish post (uv_Y G B) x y := by
  have i0 : (G 15) - 1 = 0 := uv_p1 hf
  unfold wpY_finish uv_Y
  simp only [i0, eq_self, true_implies, false_implies, forall_eq, true_and, and_true, not_true_eq_false, not_false_eq_true]
  exact h
theorem yw_finish (hf : (G 15) = nI (c + 2)) (hc : c + 1 < 12) (ho : (B 18) c = nI o) (ho6 : o < 6)
    (h : post (uv_Y (uv_st G 15 (nI (c + 1))) (uv_st (uv_st (uv_st B 20 (upd (B 20) (c * 6 + o) x)) 21 (upd (B 21) (c * 6 + o) y)) 18 (upd (B 18) c (nI (o + 1)))))) : wpY_finish post (uv_Y G B) x y := by
  have i0 : (G 15) - 1 = nI (c + 1) := uv_p1 hf
  have i1 : ¬ nI (c + 1) = 0 := nI_ne0 (by omega) (by omega)
  unfold wpY_finish uv_Y
  simp only [i0, forall_eq]
  refine br_f i1 ?_
  exact yw_push (G := (uv_st G 15 (nI (c + 1)))) (B := B) (c := c) (o := o) rfl (by omega) ho ho6 h
theorem yw_spend0 {post : Int32 → SY → Prop} (hf : (G 12) = nI 0) (h : post 0 (uv_Y (uv_st G 16 (8)) B)) : wpY_spend post (uv_Y G B) := by
  have i0 : (G 12) = 0 := hf
  unfold wpY_spend uv_Y
  exact br_t i0 h
theorem yw_spend {post : Int32 → SY → Prop} {fu : Nat} (hf : (G 12) = nI (fu + 1)) (hb : fu < 1000) (h : post 1 (uv_Y (uv_st G 12 (nI fu)) B)) : wpY_spend post (uv_Y G B) := by
  have i0 : ¬ (G 12) = 0 := by rw [hf]; exact nI_ne0 (by omega) (by omega)
  have i1 : (G 12) - 1 = nI fu := uv_p1 hf
  unfold wpY_spend uv_Y
  exact br_f i0 (nm_r i1 h)
theorem yw_addVar {z : Int32} {nd : Nat} (hn : (G 14) = nI nd) (hnd : nd < 160) (hc : c < 12)
    (h : post (uv_Y (uv_st G 14 (nI (nd + 1))) (uv_st (uv_st (uv_st (uv_st (uv_st B 12 (upd (B 12) nd x)) 13 (upd (B 13) nd y)) 14 (upd (B 14) nd z)) 15 (upd (B 15) nd ((B 17) c))) 17 (upd (B 17) c ((G 14)))))) :
    wpY_addVar post (uv_Y G B) (nI c) x y z := by
  have i0 : (G 14) < 160 := by rw [hn]; exact nI_lt (b := 160) hnd (by omega)
  have i1 : vp_in ((G 14)) 160 := by rw [hn]; exact vp_in_nI hnd (by omega)
  have i2 : ((G 14)).toNatClampNeg = nd := by rw [hn]; exact nI_clamp (by omega)
  have i3 : vp_in (nI c) 12 := vp_in_nI hc (by omega)
  have i4 : (nI c).toNatClampNeg = c := nI_clamp (by omega)
  have i5 : (G 14) + 1 = nI (nd + 1) := by rw [hn]; exact nI_1 nd
  unfold wpY_addVar uv_Y
  simp only [i0, i1, i2, i3, i4, i5, eq_self, true_implies, false_implies, forall_eq, true_and, and_true, not_true_eq_false, not_false_eq_true]
  exact h
theorem uv_uu {f : Nat → Int32} {k : Nat} {x y : Int32} : upd (upd f k x) k y = upd f k y := by
  funext j
  by_cases e : j = k
  · rw [e, pk_us, pk_us]
  · rw [pk_un e, pk_un e, pk_un e]
theorem yw_enter {z : Int32} {nd t w : Nat} (hn : (G 14) = nI nd) (hnd : nd < 160) (hf : (G 15) = nI c) (hc : c < 12) (ht : t < 32) (hw : (B 10) t = nI w) (hw2 : w < 96)
    (h : post (uv_Y (uv_st (uv_st G 15 (nI (c + 1))) 14 (nI (nd + 1))) (uv_st (uv_st (uv_st (uv_st (uv_st (uv_st (uv_st (uv_st B 16 (upd (B 16) c (nI (w + 1)))) 18 (upd (B 18) c 0)) 19 (upd (B 19) c 0)) 12 (upd (B 12) nd ((B 1) w))) 13 (upd (B 13) nd y)) 14 (upd (B 14) nd z)) 15 (upd (B 15) nd ((B 11) t))) 17 (upd (B 17) c (nI nd))))) :
    wpY_enter post (uv_Y G B) (nI t) y z := by
  have i0 : (G 15) + 1 = nI (c + 1) := by rw [hf]; exact nI_1 c
  have i1 : vp_in (nI t) 32 := vp_in_nI ht (by omega)
  have i2 : vp_in ((G 15)) 12 := by rw [hf]; exact vp_in_nI hc (by omega)
  have i3 : ((G 15)).toNatClampNeg = c := by rw [hf]; exact nI_clamp (by omega)
  have i4 : (nI t).toNatClampNeg = t := nI_clamp (by omega)
  have i5 : nI w + 1 = nI (w + 1) := nI_1 w
  have i6 : vp_in (nI w) 96 := vp_in_nI hw2 (by omega)
  have i7 : (nI w).toNatClampNeg = w := nI_clamp (by omega)
  have e : upd ((B 17)) c ((B 11) t) c = (B 11) t := pk_us
  have e2 : upd (upd ((B 17)) c ((B 11) t)) c (nI nd) = upd ((B 17)) c (nI nd) := uv_uu
  unfold wpY_enter uv_Y
  simp only [i0, i1, i2, i3, i4, hw, i5, i6, i7, forall_eq, true_and]
  rw [hf]
  refine yw_addVar (G := (uv_st G 15 (nI (c + 1)))) (B := (uv_st (uv_st (uv_st (uv_st B 16 (upd (B 16) c (nI (w + 1)))) 17 (upd (B 17) c ((B 11) t))) 18 (upd (B 18) c 0)) 19 (upd (B 19) c 0))) (c := c) (nd := nd) hn hnd hc ?_
  rw [← e, ← e2, ← hn] at h
  exact h
theorem yw_leave {post : Int32 → SY → Prop} {j : Nat} (hc : c < 12) (hb : (B 19) c = nI (j + 1)) (hj : j < 10)
    (h : post ((B 22) (c * 10 + j)) (uv_Y G (uv_st (uv_st B 17 (upd (B 17) c ((B 23) (c * 10 + j)))) 19 (upd (B 19) c (nI j))))) : wpY_leaveBlock post (uv_Y G B) (nI c) := by
  have i2 : vp_in (nI c) 12 := vp_in_nI hc (by omega)
  have i3 : (nI c).toNatClampNeg = c := nI_clamp (by omega)
  have i4 : 0 < nI (j + 1) := nI_lt (a := 0) (by omega) (by omega)
  have i5 := uv_10 c j
  have i6 : vp_in (nI (c * 10 + j)) 120 := vp_in_nI (by omega) (by omega)
  have i7 : (nI (c * 10 + j)).toNatClampNeg = c * 10 + j := nI_clamp (by omega)
  have i8 : nI (j + 1) - 1 = nI j := nI_pred j
  have i9 : upd ((B 19)) c (nI j) c = nI j := pk_us
  unfold wpY_leaveBlock uv_Y
  simp only [i2, i3, hb, i4, i8, i9, i5, i6, i7, eq_self, true_implies, false_implies, forall_eq, true_and, and_true, not_true_eq_false, not_false_eq_true]
  exact h
theorem yw_leave0 {post : Int32 → SY → Prop} (hc : c < 12) (hb : (B 19) c = nI 0) (h : post (-1) (uv_Y G B)) : wpY_leaveBlock post (uv_Y G B) (nI c) := by
  have i2 : vp_in (nI c) 12 := vp_in_nI hc (by omega)
  have i3 : (nI c).toNatClampNeg = c := nI_clamp (by omega)
  have i4 : ¬ 0 < nI 0 := by decide
  unfold wpY_leaveBlock uv_Y
  simp only [i2, i3, hb, i4, eq_self, true_implies, false_implies, forall_eq, true_and, and_true, not_true_eq_false, not_false_eq_true]
  exact h
theorem yw_enterB {j : Nat} (hc : c < 12) (hb : (B 19) c = nI j) (hj : j < 10)
    (h : post (uv_Y G (uv_st (uv_st (uv_st B 22 (upd (B 22) (c * 10 + j) x)) 23 (upd (B 23) (c * 10 + j) ((B 17) c))) 19 (upd (B 19) c (nI (j + 1)))))) : wpY_enterBlock post (uv_Y G B) (nI c) x := by
  have i2 : vp_in (nI c) 12 := vp_in_nI hc (by omega)
  have i3 : (nI c).toNatClampNeg = c := nI_clamp (by omega)
  have i4 : nI j < 10 := nI_lt (b := 10) hj (by omega)
  have i5 := uv_10 c j
  have i6 : vp_in (nI (c * 10 + j)) 120 := vp_in_nI (by omega) (by omega)
  have i7 : (nI (c * 10 + j)).toNatClampNeg = c * 10 + j := nI_clamp (by omega)
  have i8 : nI j + 1 = nI (j + 1) := nI_1 j
  unfold wpY_enterBlock uv_Y
  simp only [i2, i3, hb, i4, i8, i5, i6, i7, eq_self, true_implies, false_implies, forall_eq, true_and, and_true, not_true_eq_false, not_false_eq_true]
  exact h
theorem yw_pass0 (hf : (G 12) = nI 0) (h : post (uv_Y (uv_st G 16 (8)) B)) : wpY_beginPass post (uv_Y G B) (nI c) x := by
  unfold wpY_beginPass uv_Y
  dsimp only
  refine yw_spend0 (G := G) (B := B) hf ?_
  exact br_t rfl h
theorem yw_pass {j fu w : Nat} (hf : (G 12) = nI (fu + 1)) (hfu : fu < 1000) (hc : c < 12) (hb : (B 19) c = nI j) (hj : j < 10)
    (h : post (uv_Y (uv_st G 12 (nI fu)) (uv_st (uv_st (uv_st (uv_st B 22 (upd (B 22) (c * 10 + j) (nI w))) 23 (upd (B 23) (c * 10 + j) ((B 17) c))) 19 (upd (B 19) c (nI (j + 1)))) 16 (upd (B 16) c (nI (w + 1)))))) : wpY_beginPass post (uv_Y G B) (nI c) (nI w) := by
  have i2 : vp_in (nI c) 12 := vp_in_nI hc (by omega)
  have i3 : (nI c).toNatClampNeg = c := nI_clamp (by omega)
  have i8 : nI w + 1 = nI (w + 1) := nI_1 w
  unfold wpY_beginPass uv_Y
  dsimp only
  refine yw_spend (G := G) (B := B) hf hfu ?_
  refine br_f (by decide) ?_
  refine yw_enterB (G := (uv_st G 12 (nI fu))) (B := B) hc hb hj ?_
  refine ⟨i2, nm_e ?_⟩
  rw [i3, i8]
  exact h
end
end
section
/-! the component's helpers of execution -/
section
variable {nk nv : Nat → Int32} {N : Nat → Nat} {uc nd lim : Nat} {F : Nat → Int32}
theorem uv_gm {x : Int32} {g : Nat} (h : x = nI g - 1) (h0 : g ≠ 0) : x = nI (g - 1) := by
  obtain ⟨q, rfl⟩ : ∃ q, g = q + 1 := ⟨g - 1, by omega⟩
  rw [h, nI_pred]; rfl
theorem xw_close_lp (rn0 : Nat → Nat) (hlim : lim < 2 ^ 31) : ∀ (d i : Nat) (h : Int32) (A : Nat → Nat → Int32) (rn g : Nat → Nat), i + d ≤ 160 →
    hp_H rn N g uc nd h (A 18) (A 19) (A 20) (A 21) (A 22) (A 23) nk nv → (∀ u, u < uc → g u ≤ d) → (∀ r, rn r = rn0 r ∨ (lim ≤ r ∧ rn r = 0)) →
    ∃ (g' : Nat → Nat) (h' : Int32) (ur' uk' uv' : Nat → Int32), hp_H (fun r => if lim ≤ r then 0 else rn0 r) N g' uc nd h' ur' uk' uv' (A 21) (A 22) (A 23) nk nv ∧
      ∀ (post : SX → Prop) (fuel : Nat), d < fuel → post (uv_X (uv_st F 39 (h')) (uv_st (uv_st (uv_st A 18 (ur')) 19 (uk')) 20 (uv'))) →
        wX_closeFrom_2 post (nI lim) (F 0) (F 1) (F 2) (F 3) (F 4) (F 5) (F 6) (F 7) (F 8) (F 9) (F 10) (F 11) (F 12) (F 13) (F 14) (F 15) (F 16) (F 17) (F 18) (F 19) (F 20) (F 21) (F 22) (F 23) (F 24) (F 25) (F 26) (F 27) (F 28) (F 29) (F 30) (F 31) (F 32) (F 33) (F 34) (F 35) (F 36) (F 37) (F 38) (F 40) (F 41) (F 42) (F 43) (F 44) fuel (nI i) h (A 0) (A 1) (A 2) (A 3) (A 4) (A 5) (A 6) (A 7) (A 8) (A 9) (A 10) (A 11) (A 12) (A 13) (A 14) (A 15) (A 16) (A 17) (A 18) (A 19) (A 20) (A 21) (A 22) (A 23) (A 24) (A 25) (A 26) := by
  intro d
  induction d with
  | zero =>
    intro i h A rn g hi H hg hr
    have hh : h = -1 := by
      rcases H.2.2.2.2.2.2.2.1 with z | ⟨u, u1, u2, u3, _⟩
      · exact z.1
      · have := hg u u1; omega
    refine ⟨g, h, _, _, _, hp_drop H ?_ ?_, ?_⟩
    · intro r
      show (if lim ≤ r then 0 else rn0 r) = 0 ∨ (if lim ≤ r then 0 else rn0 r) = rn r
      by_cases c : lim ≤ r
      · rw [if_pos c]; exact Or.inl rfl
      · rw [if_neg c]
        rcases hr r with z | z
        · exact Or.inr z.symm
        · exact absurd z.1 c
    · intro u hu h0; have := hg u hu; omega
    · intro post fuel hf hp
      obtain ⟨m, rfl⟩ : ∃ m, fuel = m + 1 := ⟨fuel - 1, by omega⟩
      have hneg : h < 0 := by rw [hh]; decide
      simp only [wX_closeFrom_2]
      exact ⟨fun _ => hp, fun _ => br_t hneg hp⟩
  | succ d ih =>
    intro i h A rn g hi H hg hr
    have exit : (∀ u, u < uc → g u ≠ 0 → g u - 1 < lim) → hp_H (fun r => if lim ≤ r then 0 else rn0 r) N g uc nd h (A 18) (A 19) (A 20) (A 21) (A 22) (A 23) nk nv := by
      intro hl
      refine hp_drop H ?_ ?_
      · intro r
        show (if lim ≤ r then 0 else rn0 r) = 0 ∨ (if lim ≤ r then 0 else rn0 r) = rn r
        by_cases c : lim ≤ r
        · rw [if_pos c]; exact Or.inl rfl
        · rw [if_neg c]
          rcases hr r with z | z
          · exact Or.inr z.symm
          · exact absurd z.1 c
      · intro u hu h0
        have := hl u hu h0
        show (if lim ≤ g u - 1 then 0 else rn0 (g u - 1)) = rn (g u - 1)
        rw [if_neg (by omega)]
        rcases hr (g u - 1) with z | z
        · exact z.symm
        · omega
    rcases H.2.2.2.2.2.2.2.1 with ⟨hh, hn⟩ | ⟨u, u1, u2, u3, u4, u5⟩
    · refine ⟨g, h, _, _, _, exit (fun u hu h0 => by have := hn u hu h0; have := hp_g H hu; omega), ?_⟩
      intro post fuel hf hp
      obtain ⟨m, rfl⟩ : ∃ m, fuel = m + 1 := ⟨fuel - 1, by omega⟩
      have hneg : h < 0 := by rw [hh]; decide
      simp only [wX_closeFrom_2]
      exact ⟨fun _ => hp, fun _ => br_t hneg hp⟩
    · subst u2
      have hm : ∀ v, v < uc → g v ≤ g u := fun v hv => u5 v hv (by have := hp_g H hv; omega)
      have gu := hp_g H u1
      have hu160 := (hp_uc H).2
      have e1 : (A 18) u = nI (g u - 1) := uv_gm (H.2.1 u u1).2 u3
      have i1 : ¬ nI u < 0 := nI_pos (by omega)
      have i2 : vp_in (nI u) 160 := vp_in_nI (by omega) (by omega)
      have i3 : (nI u).toNatClampNeg = u := nI_clamp (by omega)
      by_cases hl : g u - 1 < lim
      · refine ⟨g, nI u, _, _, _, exit (fun v hv h0 => by have := hm v hv; omega), ?_⟩
        intro post fuel hf hp
        obtain ⟨m, rfl⟩ : ∃ m, fuel = m + 1 := ⟨fuel - 1, by omega⟩
        have i4 : nI (g u - 1) < nI lim := nI_lt hl hlim
        simp only [wX_closeFrom_2, i1, i2, i3, e1, i4, eq_self, true_implies, false_implies, forall_eq, true_and, and_true, not_true_eq_false, not_false_eq_true]
        exact ⟨fun _ => hp, fun _ => hp⟩
      · have i4 : ¬ nI (g u - 1) < nI lim := nI_nlt (by omega) (by omega)
        have i5 : vp_in (nI (g u - 1)) 176 := vp_in_nI (by omega) (by omega)
        have i6 : (nI (g u - 1)).toNatClampNeg = g u - 1 := nI_clamp (by omega)
        have gpos := hg u u1
        have i7 : ¬ (160 : Int32) ≤ nI i := nI_ge (b := 160) (by omega) (by omega)
        have i8 : nI i + 1 = nI (i + 1) := nI_1 i
        have H1 := hp_close H u1 u3 hm
        obtain ⟨g', h', ur', uk', uv', H', K⟩ := ih (i + 1) ((A 21) u) (uv_st (uv_st (uv_st A 19 (upd (A 19) u ((A 22) (g u - 1)))) 20 (upd (A 20) u ((A 23) (g u - 1)))) 18 (upd (A 18) u (-1)))
          (uv_st rn (g u - 1) 0) (uv_st g u 0) (by omega) H1 (fun v hv => by
            by_cases e : v = u
            · rw [e, uv_se]; omega
            · rw [uv_sn e]
              have l1 := hm v hv
              have : g v ≠ g u := fun z => e (hp_gi H u1 hv u3 z.symm).symm
              omega) (fun r => by
            by_cases e : r = g u - 1
            · rw [e, uv_se]; exact Or.inr ⟨by omega, rfl⟩
            · rw [uv_sn e]; exact hr r)
        refine ⟨g', h', ur', uk', uv', H', ?_⟩
        intro post fuel hf hp
        obtain ⟨m, rfl⟩ : ∃ m, fuel = m + 1 := ⟨fuel - 1, by omega⟩
        simp only [wX_closeFrom_2, i1, i2, i3, e1, i4, i5, i6, i7, i8, eq_self, true_implies, false_implies, forall_eq, true_and, and_true, not_true_eq_false, not_false_eq_true]
        exact K post m (by omega) hp
/-- closeFrom -/
theorem xw_close {A : Nat → Nat → Int32} {rn g : Nat → Nat} (hlim : lim < 2 ^ 31) (H : hp_H rn N g uc nd (F 39) (A 18) (A 19) (A 20) (A 21) (A 22) (A 23) nk nv) :
    ∃ (g' : Nat → Nat) (h' : Int32) (ur' uk' uv' : Nat → Int32), hp_H (fun r => if lim ≤ r then 0 else rn r) N g' uc nd h' ur' uk' uv' (A 21) (A 22) (A 23) nk nv ∧
      ∀ (post : SX → Prop), post (uv_X (uv_st F 39 (h')) (uv_st (uv_st (uv_st A 18 (ur')) 19 (uk')) 20 (uv'))) → wpX_closeFrom post (uv_X F A) (nI lim) := by
  obtain ⟨g', h', ur', uk', uv', H', K⟩ := xw_close_lp (F := F) rn hlim 160 0 (F 39) A rn g (by omega) H (fun u hu => hp_g H hu) (fun r => Or.inl rfl)
  refine ⟨g', h', ur', uk', uv', H', fun post hp => ?_⟩
  unfold wpX_closeFrom uv_X
  exact ⟨161, K post 161 (by omega) hp⟩
end
end
section
/-! the reference's loops of execution -/
section
variable {G : Nat → Int32} {B : Nat → Nat → Int32}
theorem yw_lookup_lp {E : Nat → Int32} {nd : Nat} {s : ss_T} {x : Int32} (hE : ev_E E nd (B 15) (B 12) s) (hnd : nd ≤ 160) : ∀ (j i fuel : Nat), j ≤ ss_V s → i + j < 160 → j < fuel →
    ∀ post : Int32 → Prop, post (E (ss_ls (ss_N s) x j)) → wY_lookup_5 post x (G 0) (G 1) (G 2) (G 3) (G 4) (G 5) (G 6) (G 7) (G 8) (G 9) (G 10) (G 11) (G 12) (G 13) (G 14) (G 15) (G 16) (G 17) (G 18) (B 0) (B 1) (B 2) (B 3) (B 4) (B 5) (B 6) (B 7) (B 8) (B 9) (B 10) (B 11) (B 12) (B 13) (B 14) (B 15) (B 16) (B 17) (B 18) (B 19) (B 20) (B 21) (B 22) (B 23) fuel (E j) (nI i) := by
  intro j
  induction j with
  | zero =>
    intro i fuel _ hi hf post hp
    obtain ⟨m, rfl⟩ : ∃ m, fuel = m + 1 := ⟨fuel - 1, by omega⟩
    have e0 : E 0 = -1 := hE.1
    have i1 : ¬ (160 : Int32) ≤ nI i := nI_ge (b := 160) (by omega) (by omega)
    have i2 : E 0 < 0 := by rw [e0]; decide
    have hp' : post (E 0) := hp
    simp only [wY_lookup_5, i1, i2, eq_self, true_implies, false_implies, forall_eq, true_and, and_true, not_true_eq_false, not_false_eq_true]
    exact hp'
  | succ j ih =>
    intro i fuel hj hi hf post hp
    obtain ⟨m, rfl⟩ : ∃ m, fuel = m + 1 := ⟨fuel - 1, by omega⟩
    obtain ⟨v, v1, v2, v3, v4⟩ := hE.2 j (by omega)
    have i1 : ¬ (160 : Int32) ≤ nI i := nI_ge (b := 160) (by omega) (by omega)
    have i2 : ¬ nI v < 0 := nI_pos (by omega)
    have i3 : vp_in (nI v) 160 := vp_in_nI (by omega) (by omega)
    have i4 : (nI v).toNatClampNeg = v := nI_clamp (by omega)
    have i5 : nI i + 1 = nI (i + 1) := nI_1 i
    have u : ss_ls (ss_N s) x (j + 1) = if ss_N s j = x then j + 1 else ss_ls (ss_N s) x j := rfl
    by_cases c : ss_N s j = x
    · rw [u, if_pos c, v2] at hp
      rw [v2]
      simp only [wY_lookup_5, i1, i2, i3, i4, v4, c, eq_self, true_implies, false_implies, forall_eq, true_and, and_true, not_true_eq_false, not_false_eq_true]
      exact hp
    · rw [u, if_neg c] at hp
      have := ih (i + 1) m (by omega) (by omega) (by omega) post hp
      rw [v2]
      simp only [wY_lookup_5, i1, i2, i3, i4, v4, c, v3, i5, eq_self, true_implies, false_implies, forall_eq, true_and, and_true, not_true_eq_false, not_false_eq_true]
      exact this
theorem yw_lookup {E : Nat → Int32} {nd j : Nat} {s : ss_T} {x : Int32} {post : Int32 → Prop} (hE : ev_E E nd (B 15) (B 12) s) (hnd : nd ≤ 160) (hV : ss_V s ≤ 88) (hj : j ≤ ss_V s)
    (hp : post (E (ss_ls (ss_N s) x j))) : wpY_lookup post (uv_Y G B) (E j) x := by
  unfold wpY_lookup uv_Y
  exact ⟨j + 1, yw_lookup_lp (G := G) hE hnd j 0 (j + 1) hj (by omega) (by omega) post hp⟩
theorem ss_R_O {k a : Int32} {p : Nat} {s t : ss_T} (r : ss_R k a p s t) : ((k = 4 ∨ k = 8) ∧ ss_O t = ss_O s + 1) ∨ (k = 10 ∧ 1 ≤ ss_O s ∧ ss_O t = ss_O s - 1) ∨ (k = 9 ∧ ss_O t = ss_O s) ∨
    (k ≠ 4 ∧ k ≠ 8 ∧ k ≠ 9 ∧ k ≠ 10 ∧ ss_O t = ss_O s) := by
  rcases r with ⟨kk, _, e⟩ | ⟨kk, _, _, _, e⟩ | ⟨kk, _, _, e⟩ | ⟨kk, _, e⟩ | ⟨kk, _, _, _, _, e⟩ | ⟨kk, _, _, _, e⟩ | ⟨kk, _, _, _, e⟩ | ⟨kk, _, _, _, e⟩ | ⟨kk, _, _, _, e⟩ | ⟨kk, _, ho, hk, _, e⟩ | ⟨kk, ho, _, ⟨hk, e⟩ | ⟨hk, e⟩⟩ <;> subst kk <;> subst e
  · exact Or.inr (Or.inr (Or.inr ⟨by decide, by decide, by decide, by decide, rfl⟩))
  · exact Or.inr (Or.inr (Or.inr ⟨by decide, by decide, by decide, by decide, rfl⟩))
  · exact Or.inr (Or.inr (Or.inr ⟨by decide, by decide, by decide, by decide, rfl⟩))
  · exact Or.inr (Or.inr (Or.inr ⟨by decide, by decide, by decide, by decide, rfl⟩))
  · exact Or.inl ⟨Or.inl rfl, rfl⟩
  · exact Or.inr (Or.inr (Or.inr ⟨by decide, by decide, by decide, by decide, rfl⟩))
  · exact Or.inr (Or.inr (Or.inr ⟨by decide, by decide, by decide, by decide, rfl⟩))
  · exact Or.inr (Or.inr (Or.inr ⟨by decide, by decide, by decide, by decide, rfl⟩))
  · exact Or.inl ⟨Or.inr rfl, rfl⟩
  · exact Or.inr (Or.inr (Or.inl ⟨rfl, rfl⟩))
  · exact Or.inr (Or.inl ⟨rfl, ho, rfl⟩)
  · exact Or.inr (Or.inl ⟨rfl, ho, rfl⟩)
theorem yw_pe_lp {a : Nat → Int32} {n w q : Nat} {S : Nat → ss_T} (hS : ss_S (B 0) a n S) (hn : (G 4) = nI n) (hn96 : n ≤ 96) (hq : q < n) (hc : ss_cl (B 0) S w q) :
    ∀ (d r fuel : Nat), r + d = q → w < r → d < fuel → ∀ post : Int32 → Prop, post (nI q) → wY_partEnd_6 post (G 0) (G 1) (G 2) (G 3) (G 4) (G 5) (G 6) (G 7) (G 8) (G 9) (G 10) (G 11) (G 12) (G 13) (G 14) (G 15) (G 16) (G 17) (G 18) (B 0) (B 1) (B 2) (B 3) (B 4) (B 5) (B 6) (B 7) (B 8) (B 9) (B 10) (B 11) (B 12) (B 13) (B 14) (B 15) (B 16) (B 17) (B 18) (B 19) (B 20) (B 21) (B 22) (B 23) fuel (nI (ss_O (S r) - ss_O (S (w + 1)) + 1)) (nI r) := by
  intro d
  have hpre := (ss_preS hS q (by omega) (ss_O (S q)) hc.2.1 (Nat.le_refl _)).2.1
  rw [hc.2.2.2] at hpre
  have J : ∀ r, w < r → r ≤ q → ss_O (S (w + 1)) ≤ ss_O (S r) ∧ ss_on S r w (ss_O (S (w + 1))) := by
    intro r h1 h2
    have o := ss_on_down hS (q := q) (p := r) (by omega) h1 h2 hc.2
    rw [← hpre] at o
    exact ⟨o.2.1, o⟩
  induction d with
  | zero =>
    intro r fuel hr hw hf post hp
    obtain ⟨m, rfl⟩ : ∃ m, fuel = m + 1 := ⟨fuel - 1, by omega⟩
    have e : r = q := by omega
    subst e
    have e1 : ss_O (S r) - ss_O (S (w + 1)) + 1 = 1 := by omega
    rw [e1]
    have i1 : ¬ (G 4) ≤ nI r := by rw [hn]; exact nI_ge hq (by omega)
    have i2 : vp_in (nI r) 96 := vp_in_nI (by omega) (by omega)
    have i3 : (nI r).toNatClampNeg = r := nI_clamp (by omega)
    rcases hc.1 with k9 | k10
    · have a1 : ¬ (9 : Int32) = 4 := by decide
      have a2 : ¬ (9 : Int32) = 8 := by decide
      have a3 : ¬ (9 : Int32) = 10 := by decide
      have a4 : ¬ nI 1 = 0 := by decide
      have a5 : nI 1 = 1 := by decide
      simp only [wY_partEnd_6, wY_partEnd_38, wY_partEnd_52, i1, i2, i3, k9, a1, a2, a3, a4, a5, eq_self, true_implies, false_implies, forall_eq, true_and, and_true, not_true_eq_false, not_false_eq_true]
      exact ⟨fun z => absurd z (by decide), fun _ => hp⟩
    · have a1 : ¬ (10 : Int32) = 4 := by decide
      have a2 : ¬ (10 : Int32) = 8 := by decide
      have a4 : nI 1 + (-1) = 0 := by decide
      simp only [wY_partEnd_6, wY_partEnd_38, wY_partEnd_52, i1, i2, i3, k10, a1, a2, a4, eq_self, true_implies, false_implies, forall_eq, true_and, and_true, not_true_eq_false, not_false_eq_true]
      exact hp
  | succ d ih =>
    intro r fuel hr hw hf post hp
    obtain ⟨m, rfl⟩ : ∃ m, fuel = m + 1 := ⟨fuel - 1, by omega⟩
    have i1 : ¬ (G 4) ≤ nI r := by rw [hn]; exact nI_ge (by omega) (by omega)
    have i2 : vp_in (nI r) 96 := vp_in_nI (by omega) (by omega)
    have i3 : (nI r).toNatClampNeg = r := nI_clamp (by omega)
    have i4 : nI r + 1 = nI (r + 1) := nI_1 r
    have K := ih (r + 1) m (by omega) (by omega) (by omega) post hp
    have hle := (J r hw (by omega)).1
    have hon := (J r hw (by omega)).2
    have hO10 := (ss_I_S hS r (by omega)).1
    have nocl : ((B 0) r = 9 ∨ (B 0) r = 10) → ss_O (S r) ≠ ss_O (S (w + 1)) := by
      intro z e
      have c : ss_cl (B 0) S w r := ⟨z, by rw [e]; exact hon⟩
      have := ss_cl_uniq hS (by omega) hq c hc
      omega
    rcases ss_R_O (hS.2 r (by omega)) with ⟨kk, eO⟩ | ⟨kk, h1, eO⟩ | ⟨kk, eO⟩ | ⟨k4, k8, k9, k10, eO⟩
    · have e : ss_O (S r) - ss_O (S (w + 1)) + 1 + 1 = ss_O (S (r + 1)) - ss_O (S (w + 1)) + 1 := by omega
      have i5 : nI (ss_O (S r) - ss_O (S (w + 1)) + 1) + 1 = nI (ss_O (S (r + 1)) - ss_O (S (w + 1)) + 1) := by rw [nI_1, e]
      have i6 : ¬ nI (ss_O (S (r + 1)) - ss_O (S (w + 1)) + 1) = 0 := nI_ne0 (by omega) (by omega)
      have i7 : ¬ nI (ss_O (S (r + 1)) - ss_O (S (w + 1)) + 1) = 1 := fun z => by
        have := (nI_eq (a := ss_O (S (r + 1)) - ss_O (S (w + 1)) + 1) (b := 1) (by omega) (by omega)).mp z
        omega
      rcases kk with kk | kk
      · have a3 : ¬ (4 : Int32) = 10 := by decide
        simp only [wY_partEnd_6, wY_partEnd_35, wY_partEnd_38, wY_partEnd_52, i1, i2, i3, kk, a3, i5, i6, i7, i4, eq_self, true_implies, false_implies, forall_eq, true_and, and_true, not_true_eq_false, not_false_eq_true]
        exact K
      · have a2 : ¬ (8 : Int32) = 4 := by decide
        have a3 : ¬ (8 : Int32) = 10 := by decide
        simp only [wY_partEnd_6, wY_partEnd_35, wY_partEnd_38, wY_partEnd_52, i1, i2, i3, kk, a2, a3, i5, i6, i7, i4, eq_self, true_implies, false_implies, forall_eq, true_and, and_true, not_true_eq_false, not_false_eq_true]
        exact K
    · have nc := nocl (Or.inr kk)
      have i5 : nI (ss_O (S r) - ss_O (S (w + 1)) + 1) + (-1) = nI (ss_O (S (r + 1)) - ss_O (S (w + 1)) + 1) := by
        rw [pk_m1]
        exact congrArg nI (by omega)
      have i6 : ¬ nI (ss_O (S (r + 1)) - ss_O (S (w + 1)) + 1) = 0 := nI_ne0 (by omega) (by omega)
      have a1 : ¬ (10 : Int32) = 4 := by decide
      have a2 : ¬ (10 : Int32) = 8 := by decide
      have a3 : ¬ (10 : Int32) = 9 := by decide
      simp only [wY_partEnd_6, wY_partEnd_38, wY_partEnd_52, i1, i2, i3, kk, a1, a2, a3, i5, i6, i4, eq_self, true_implies, false_implies, forall_eq, true_and, and_true, not_true_eq_false, not_false_eq_true]
      exact ⟨fun _ => K, fun _ => K⟩
    · have nc := nocl (Or.inl kk)
      have e : ss_O (S r) - ss_O (S (w + 1)) + 1 = ss_O (S (r + 1)) - ss_O (S (w + 1)) + 1 := by omega
      have i6 : ¬ nI (ss_O (S (r + 1)) - ss_O (S (w + 1)) + 1) = 0 := nI_ne0 (by omega) (by omega)
      have i7 : ¬ nI (ss_O (S (r + 1)) - ss_O (S (w + 1)) + 1) = 1 := fun z => by
        have := (nI_eq (a := ss_O (S (r + 1)) - ss_O (S (w + 1)) + 1) (b := 1) (by omega) (by omega)).mp z
        omega
      have a1 : ¬ (9 : Int32) = 4 := by decide
      have a2 : ¬ (9 : Int32) = 8 := by decide
      have a3 : ¬ (9 : Int32) = 10 := by decide
      rw [e]
      simp only [wY_partEnd_6, wY_partEnd_38, wY_partEnd_52, i1, i2, i3, kk, a1, a2, a3, i6, i7, i4, eq_self, true_implies, false_implies, forall_eq, true_and, and_true, not_true_eq_false, not_false_eq_true]
      exact K
    · have e : ss_O (S r) - ss_O (S (w + 1)) + 1 = ss_O (S (r + 1)) - ss_O (S (w + 1)) + 1 := by omega
      have i6 : ¬ nI (ss_O (S (r + 1)) - ss_O (S (w + 1)) + 1) = 0 := nI_ne0 (by omega) (by omega)
      rw [e]
      simp only [wY_partEnd_6, wY_partEnd_38, wY_partEnd_52, i1, i2, i3, k4, k8, k9, k10, i6, i4, eq_self, true_implies, false_implies, forall_eq, true_and, and_true, not_true_eq_false, not_false_eq_true]
      exact ⟨fun _ => K, fun _ => K⟩
theorem yw_pe {a : Nat → Int32} {n w q : Nat} {S : Nat → ss_T} {post : Int32 → Prop} (hS : ss_S (B 0) a n S) (hn : (G 4) = nI n) (hn96 : n ≤ 96) (hq : q < n) (hc : ss_cl (B 0) S w q)
    (hp : post (nI q)) : wpY_partEnd post (uv_Y G B) (nI w) := by
  have hw := ss_on_lt hS (p := q) (by omega) hc.2
  have K := yw_pe_lp (G := G) (B := B) hS hn hn96 hq hc (q - (w + 1)) (w + 1) (q + 1) (by omega) (by omega) (by omega) post hp
  rw [Nat.sub_self] at K
  unfold wpY_partEnd uv_Y
  exact nm_r (nI_1 w) ⟨q + 1, K⟩
end
end
section
/-! the reference reads its words -/
def ys_fr (G : Nat → Int32) (B : Nat → Nat → Int32) (G' : Nat → Int32) (B' : Nat → Nat → Int32) : Prop := (∀ i, (i < 5 ∨ 8 < i) → G' i = G i) ∧ ∀ i, (i < 2 ∨ 7 < i) → B' i = B i
def ys_A (k a : Nat → Int32) (S : Nat → ss_T) (p : Nat) (op fn vr fu : Int32) (cK cW cV cO vN ct : Nat → Int32) : Prop :=
  op = nI (ss_O (S p)) ∧ fn = nI (ss_f (S p)) ∧ vr = nI (ss_V (S p)) ∧ fu = nI (ss_F (S p)) ∧
  (∀ i, i ≤ ss_O (S p) → cK i = ss_K (S p) i ∧ cV i = nI (ss_C (S p) i)) ∧
  (∀ i, i ≤ ss_O (S p) → (i = 0 ∨ ss_K (S p) i = 5) → cO i = nI (ss_P (S p) i)) ∧
  (∀ i, 1 ≤ i → i ≤ ss_O (S p) → ss_K (S p) i = 5 → cW i = nI (ss_W (S p) i)) ∧
  (∀ j, j < ss_V (S p) → vN j = ss_N (S p) j) ∧
  (∀ w m, w < 96 → m < 8 → (ss_cap k a S p w (nI m) → ct (w * 8 + m) = 1) ∧ (¬ ss_cap k a S p w (nI m) → ct (w * 8 + m) = 0))
/-- how many functions stand between variable l - 1 and here -/
def ss_lv (K : Nat → Int32) (C : Nat → Nat) (l : Nat) : Nat → Nat
  | 0 => 0
  | i + 1 => ss_lv K C l i + (if K (i + 1) = 5 ∧ l ≤ C (i + 1) then 1 else 0)
theorem ss_lv_ow {K : Nat → Int32} {C : Nat → Nat} {l : Nat} (hl : l ≠ 0) : ∀ i, ss_ow K C (l - 1) i + ss_lv K C l i = ss_fd K i
  | 0 => rfl
  | i + 1 => by
    have := ss_lv_ow (K := K) (C := C) hl i
    show ss_ow K C (l - 1) i + (if K (i + 1) = 5 ∧ C (i + 1) ≤ l - 1 then 1 else 0) + (ss_lv K C l i + (if K (i + 1) = 5 ∧ l ≤ C (i + 1) then 1 else 0)) = ss_fd K i + (if K (i + 1) = 5 then 1 else 0)
    by_cases h5 : K (i + 1) = 5
    · by_cases c : l ≤ C (i + 1)
      · have e1 : K (i + 1) = 5 ∧ l ≤ C (i + 1) := ⟨h5, c⟩
        have e2 : ¬ (K (i + 1) = 5 ∧ C (i + 1) ≤ l - 1) := fun z => by have := z.2; omega
        rw [if_pos h5, if_pos e1, if_neg e2]; omega
      · have e1 : ¬ (K (i + 1) = 5 ∧ l ≤ C (i + 1)) := fun z => c z.2
        have e2 : K (i + 1) = 5 ∧ C (i + 1) ≤ l - 1 := ⟨h5, by omega⟩
        rw [if_pos h5, if_neg e1, if_pos e2]; omega
    · have e1 : ¬ (K (i + 1) = 5 ∧ l ≤ C (i + 1)) := fun z => h5 z.1
      have e2 : ¬ (K (i + 1) = 5 ∧ C (i + 1) ≤ l - 1) := fun z => h5 z.1
      rw [if_neg h5, if_neg e1, if_neg e2]; omega
theorem ss_lv_le (K : Nat → Int32) (C : Nat → Nat) (l : Nat) : ∀ i, ss_lv K C l i ≤ i
  | 0 => Nat.le_refl 0
  | i + 1 => by
    have := ss_lv_le K C l i
    unfold ss_lv
    split <;> omega
theorem ss_lv_0 {K : Nat → Int32} {C : Nat → Nat} {l : Nat} : ∀ {i : Nat}, (∀ c, 1 ≤ c → c ≤ i → K c = 5 → C c < l) → ss_lv K C l i = 0
  | 0, _ => rfl
  | i + 1, h => by
    have := ss_lv_0 (K := K) (C := C) (l := l) (i := i) (fun c h1 h2 => h c h1 (by omega))
    unfold ss_lv
    rw [this, if_neg (fun z => by have := h (i + 1) (by omega) (Nat.le_refl _) z.1; omega)]
section
variable {G : Nat → Int32} {B : Nat → Nat → Int32} {s : ss_T} {x : Int32} {post : Int32 → Prop}
theorem yw_level41 {l : Nat} (hl : l ≠ 0) (hl2 : l < 1000) (hO : ss_O s ≤ 10) (hV : ∀ i, i ≤ ss_O s → ss_C s i < 1000) (ho : (G 5) = nI (ss_O s)) (hK : ∀ i, i ≤ ss_O s → (B 2) i = ss_K s i ∧ (B 4) i = nI (ss_C s i))
    (hp : post (nI (ss_lv (ss_K s) (ss_C s) l (ss_O s)))) : ∀ (d c fuel : Nat), c + d = ss_O s → d < fuel →
    wY_level_41 post (nI (l - 1)) (G 0) (G 1) (G 2) (G 3) (G 4) (G 5) (G 6) (G 7) (G 8) (G 9) (G 10) (G 11) (G 12) (G 13) (G 14) (G 15) (G 16) (G 17) (G 18) (B 0) (B 1) (B 2) (B 3) (B 4) (B 5) (B 6) (B 7) (B 8) (B 9) (B 10) (B 11) (B 12) (B 13) (B 14) (B 15) (B 16) (B 17) (B 18) (B 19) (B 20) (B 21) (B 22) (B 23) fuel (nI (ss_lv (ss_K s) (ss_C s) l c)) (nI (c + 1)) := by
  intro d
  induction d with
  | zero =>
    intro c fuel hc hf
    obtain ⟨m, rfl⟩ : ∃ m, fuel = m + 1 := ⟨fuel - 1, by omega⟩
    have e : c = ss_O s := by omega
    have i1 : (G 5) < nI (c + 1) := by rw [ho, e]; exact nI_lt (by omega) (by omega)
    simp only [wY_level_41, i1, eq_self, true_implies, false_implies, forall_eq, true_and, and_true, not_true_eq_false, not_false_eq_true]
    rw [e]; exact hp
  | succ d ih =>
    intro c fuel hc hf
    obtain ⟨m, rfl⟩ : ∃ m, fuel = m + 1 := ⟨fuel - 1, by omega⟩
    have K := ih (c + 1) m (by omega) (by omega)
    have i1 : ¬ (G 5) < nI (c + 1) := by rw [ho]; exact nI_nlt (by omega) (by omega)
    have i2 : vp_in (nI (c + 1)) 11 := vp_in_nI (by omega) (by omega)
    have i3 : (nI (c + 1)).toNatClampNeg = c + 1 := nI_clamp (by omega)
    have i4 : nI (c + 1) + 1 = nI (c + 1 + 1) := nI_1 (c + 1)
    obtain ⟨k1, k2⟩ := hK (c + 1) (by omega)
    have cb := hV (c + 1) (by omega)
    have u : ss_lv (ss_K s) (ss_C s) l (c + 1) = ss_lv (ss_K s) (ss_C s) l c + (if ss_K s (c + 1) = 5 ∧ l ≤ ss_C s (c + 1) then 1 else 0) := rfl
    by_cases h5 : ss_K s (c + 1) = 5
    · by_cases cc : l ≤ ss_C s (c + 1)
      · rw [if_pos ⟨h5, cc⟩] at u
        rw [u] at K
        have i5 : ¬ nI (ss_C s (c + 1)) ≤ nI (l - 1) := nI_ge (by omega) (by omega)
        have i6 : nI (ss_lv (ss_K s) (ss_C s) l c) + 1 = nI (ss_lv (ss_K s) (ss_C s) l c + 1) := nI_1 _
        simp only [wY_level_41, i1, i2, i3, k1, k2, h5, i5, i6, i4, eq_self, true_implies, false_implies, forall_eq, true_and, and_true, not_true_eq_false, not_false_eq_true]
        exact K
      · rw [if_neg (fun z => cc z.2), Nat.add_zero] at u
        rw [u] at K
        have i5 : nI (ss_C s (c + 1)) ≤ nI (l - 1) := nI_le (by omega) (by omega)
        simp only [wY_level_41, i1, i2, i3, k1, k2, h5, i5, i4, eq_self, true_implies, false_implies, forall_eq, true_and, and_true, not_true_eq_false, not_false_eq_true]
        exact K
    · rw [if_neg (fun z => h5 z.1), Nat.add_zero] at u
      rw [u] at K
      simp only [wY_level_41, i1, i2, i3, k1, h5, i4, eq_self, true_implies, false_implies, forall_eq, true_and, and_true, not_true_eq_false, not_false_eq_true]
      exact K
theorem yw_level4 (hV : ss_V s ≤ 96) (hv : (G 7) = nI (ss_V s)) (hN : ∀ j, j < ss_V s → (B 6) j = ss_N s j)
    (h0 : ss_l s x = 0 → post (-1)) (h1 : ss_l s x ≠ 0 → ∃ n41, wY_level_41 post (nI (ss_l s x - 1)) (G 0) (G 1) (G 2) (G 3) (G 4) (G 5) (G 6) (G 7) (G 8) (G 9) (G 10) (G 11) (G 12) (G 13) (G 14) (G 15) (G 16) (G 17) (G 18) (B 0) (B 1) (B 2) (B 3) (B 4) (B 5) (B 6) (B 7) (B 8) (B 9) (B 10) (B 11) (B 12) (B 13) (B 14) (B 15) (B 16) (B 17) (B 18) (B 19) (B 20) (B 21) (B 22) (B 23) n41 0 1) : ∀ (d j fuel : Nat), j + d = ss_V s → d < fuel →
    wY_level_4 post x (G 0) (G 1) (G 2) (G 3) (G 4) (G 5) (G 6) (G 7) (G 8) (G 9) (G 10) (G 11) (G 12) (G 13) (G 14) (G 15) (G 16) (G 17) (G 18) (B 0) (B 1) (B 2) (B 3) (B 4) (B 5) (B 6) (B 7) (B 8) (B 9) (B 10) (B 11) (B 12) (B 13) (B 14) (B 15) (B 16) (B 17) (B 18) (B 19) (B 20) (B 21) (B 22) (B 23) fuel (nI (ss_ls (ss_N s) x j) - 1) (nI j) := by
  intro d
  induction d with
  | zero =>
    intro j fuel hj hf
    obtain ⟨m, rfl⟩ : ∃ m, fuel = m + 1 := ⟨fuel - 1, by omega⟩
    have e : j = ss_V s := by omega
    have i1 : (G 7) ≤ nI j := by rw [hv, e]; exact nI_le (Nat.le_refl _) (by omega)
    have el : ss_ls (ss_N s) x j = ss_l s x := by rw [e]; rfl
    have hle := ss_ls_le (ss_N s) x j
    rw [el]
    rw [el] at hle
    by_cases c : ss_l s x = 0
    · have i2 : ¬ 0 ≤ nI (ss_l s x) - 1 := by rw [c]; decide
      simp only [wY_level_4, i1, i2, eq_self, true_implies, false_implies, forall_eq, true_and, and_true, not_true_eq_false, not_false_eq_true]
      exact h0 c
    · have e2 : nI (ss_l s x) - 1 = nI (ss_l s x - 1) := by
        obtain ⟨q, hq⟩ : ∃ q, ss_l s x = q + 1 := ⟨ss_l s x - 1, by omega⟩
        rw [hq, nI_pred, Nat.add_sub_cancel]
      have i2 : 0 ≤ nI (ss_l s x - 1) := nI_pos' (by omega)
      rw [e2]
      simp only [wY_level_4, i1, i2, eq_self, true_implies, false_implies, forall_eq, true_and, and_true, not_true_eq_false, not_false_eq_true]
      exact h1 c
  | succ d ih =>
    intro j fuel hj hf
    obtain ⟨m, rfl⟩ : ∃ m, fuel = m + 1 := ⟨fuel - 1, by omega⟩
    have K := ih (j + 1) m (by omega) (by omega)
    have i1 : ¬ (G 7) ≤ nI j := by rw [hv]; exact nI_ge (by omega) (by omega)
    have i2 : vp_in (nI j) 97 := vp_in_nI (by omega) (by omega)
    have i3 : (nI j).toNatClampNeg = j := nI_clamp (by omega)
    have i4 : nI j + 1 = nI (j + 1) := nI_1 j
    have k1 := hN j (by omega)
    have u : ss_ls (ss_N s) x (j + 1) = if ss_N s j = x then j + 1 else ss_ls (ss_N s) x j := rfl
    by_cases c : ss_N s j = x
    · rw [u, if_pos c, nI_pred] at K
      simp only [wY_level_4, i1, i2, i3, k1, c, i4, eq_self, true_implies, false_implies, forall_eq, true_and, and_true, not_true_eq_false, not_false_eq_true]
      exact K
    · rw [u, if_neg c] at K
      simp only [wY_level_4, i1, i2, i3, k1, c, i4, eq_self, true_implies, false_implies, forall_eq, true_and, and_true, not_true_eq_false, not_false_eq_true]
      exact K
theorem yw_level {S : Nat → ss_T} {p : Nat} (hI : ss_I p (S p)) (a1 : (G 5) = nI (ss_O (S p))) (a3 : (G 7) = nI (ss_V (S p))) (a5 : ∀ i, i ≤ ss_O (S p) → (B 2) i = ss_K (S p) i ∧ (B 4) i = nI (ss_C (S p) i)) (a8 : ∀ j, j < ss_V (S p) → (B 6) j = ss_N (S p) j)
    (h0 : ss_l (S p) x = 0 → post (-1)) (h1 : ss_l (S p) x ≠ 0 → post (nI (ss_lv (ss_K (S p)) (ss_C (S p)) (ss_l (S p) x) (ss_O (S p))))) : wpY_level post (uv_Y G B) x := by
  have hV := ss_V88 hI
  have hC : ∀ i, i ≤ ss_O (S p) → ss_C (S p) i < 1000 := fun i hi => by
    rcases Nat.eq_zero_or_pos i with z | z
    · rw [z, hI.2.2.2.1]; omega
    · have := (hI.2.2.2.2.2.2.1 i z hi).2.1; omega
  have hl := ss_ls_le (ss_N (S p)) x (ss_V (S p))
  have hl' : ss_l (S p) x ≤ ss_V (S p) := hl
  have K := yw_level4 (G := G) (B := B) (s := S p) (x := x) (post := post) (by omega) a3 a8 h0 (fun hne => ⟨ss_O (S p) + 1, yw_level41 (G := G) (B := B) hne (by omega) hI.1 hC a1 a5 (h1 hne) (ss_O (S p)) 0 _ (by omega) (by omega)⟩) (ss_V (S p)) 0 (ss_V (S p) + 1) (by omega) (by omega)
  unfold wpY_level uv_Y
  exact ⟨ss_V (S p) + 1, K⟩
end
theorem uv_b1 : vp_nar .boolean 1 = 1 := rfl
theorem uv_b0 : vp_nar .boolean 0 = 0 := rfl
section
variable {G : Nat → Int32} {post : SY → Prop} {s : ss_T} {m0 : Nat}
/-- capture: ct0 is the table before -/
theorem yw_cap_lp {p l : Nat} (hI : ss_I p s) (hp : p ≤ 96) (hm0 : m0 < 8) (ct0 : Nat → Int32)
    (hK : ∀ i, i ≤ ss_O s → ss_K s i = 5 → ss_C s i < l → ∀ j, 1 ≤ j → j ≤ i → ss_K s j = 5 → ss_C s j < l) : ∀ (c fuel : Nat) (B : Nat → Nat → Int32), c ≤ ss_O s → c < fuel →
    (∀ i, i ≤ ss_O s → (B 2) i = ss_K s i) → (∀ i, 1 ≤ i → i ≤ ss_O s → ss_K s i = 5 → (B 3) i = nI (ss_W s i)) →
    (∀ w m, w < 96 → m < 8 → ((m = m0 ∧ ∃ d, c < d ∧ d ≤ ss_O s ∧ ss_K s d = 5 ∧ ss_W s d = w ∧ l ≤ ss_C s d) → (B 7) (w * 8 + m) = 1) ∧
      (¬ (m = m0 ∧ ∃ d, c < d ∧ d ≤ ss_O s ∧ ss_K s d = 5 ∧ ss_W s d = w ∧ l ≤ ss_C s d) → (B 7) (w * 8 + m) = ct0 (w * 8 + m))) →
    (∀ ct', (∀ w m, w < 96 → m < 8 → ((m = m0 ∧ ∃ d, 0 < d ∧ d ≤ ss_O s ∧ ss_K s d = 5 ∧ ss_W s d = w ∧ l ≤ ss_C s d) → ct' (w * 8 + m) = 1) ∧
      (¬ (m = m0 ∧ ∃ d, 0 < d ∧ d ≤ ss_O s ∧ ss_K s d = 5 ∧ ss_W s d = w ∧ l ≤ ss_C s d) → ct' (w * 8 + m) = ct0 (w * 8 + m))) → post (uv_Y G (uv_st B 7 (ct')))) →
    wY_capture_11 post (nI m0) (G 0) (G 1) (G 2) (G 3) (G 4) (G 5) (G 6) (G 7) (G 8) (G 9) (G 10) (G 11) (G 12) (G 13) (G 14) (G 15) (G 16) (G 17) (G 18) fuel (nI (ss_lv (ss_K s) (ss_C s) l c)) (nI c) (B 0) (B 1) (B 2) (B 3) (B 4) (B 5) (B 6) (B 7) (B 8) (B 9) (B 10) (B 11) (B 12) (B 13) (B 14) (B 15) (B 16) (B 17) (B 18) (B 19) (B 20) (B 21) (B 22) (B 23) := by
  intro c
  induction c with
  | zero =>
    intro fuel B hc hf h1 h2 h3 hpost
    obtain ⟨m, rfl⟩ : ∃ m, fuel = m + 1 := ⟨fuel - 1, by omega⟩
    have i1 : nI 0 ≤ 0 := by decide
    simp only [wY_capture_11, i1, eq_self, true_implies, false_implies, forall_eq, true_and, and_true, not_true_eq_false, not_false_eq_true]
    exact hpost (B 7) h3
  | succ c ih =>
    intro fuel B hc hf h1 h2 h3 hpost
    obtain ⟨m, rfl⟩ : ∃ m, fuel = m + 1 := ⟨fuel - 1, by omega⟩
    have lv := ss_lv_le (ss_K s) (ss_C s) l (c + 1)
    have hO := hI.1
    have i1 : ¬ nI (c + 1) ≤ 0 := nI_nle (by omega) (by omega)
    have i2 : vp_in (nI (c + 1)) 11 := vp_in_nI (by omega) (by omega)
    have i3 : (nI (c + 1)).toNatClampNeg = c + 1 := nI_clamp (by omega)
    have i4 : nI (c + 1) + (-1) = nI c := pk_m1 c
    have u : ss_lv (ss_K s) (ss_C s) l (c + 1) = ss_lv (ss_K s) (ss_C s) l c + (if ss_K s (c + 1) = 5 ∧ l ≤ ss_C s (c + 1) then 1 else 0) := rfl
    by_cases z : ss_lv (ss_K s) (ss_C s) l (c + 1) = 0
    · have i5 : nI (ss_lv (ss_K s) (ss_C s) l (c + 1)) ≤ 0 := by rw [z]; decide
      simp only [wY_capture_11, i1, i5, eq_self, true_implies, false_implies, forall_eq, true_and, and_true, not_true_eq_false, not_false_eq_true]
      refine hpost (B 7) (fun w m' hw hm => ?_)
      have none : ∀ d, 0 < d → d ≤ c + 1 → ss_K s d = 5 → ¬ l ≤ ss_C s d := by
        intro d d1 d2 d5 d6
        have : ∀ e, d ≤ e → 0 < ss_lv (ss_K s) (ss_C s) l e := by
          intro e
          induction e with
          | zero => intro h; omega
          | succ e ihe =>
            intro h
            have ue : ss_lv (ss_K s) (ss_C s) l (e + 1) = ss_lv (ss_K s) (ss_C s) l e + (if ss_K s (e + 1) = 5 ∧ l ≤ ss_C s (e + 1) then 1 else 0) := rfl
            by_cases q : d = e + 1
            · rw [← q, if_pos ⟨d5, d6⟩] at ue
              rw [← q]; omega
            · have := ihe (by omega); omega
        have := this (c + 1) d2
        omega
      have eqv : (m' = m0 ∧ ∃ d, 0 < d ∧ d ≤ ss_O s ∧ ss_K s d = 5 ∧ ss_W s d = w ∧ l ≤ ss_C s d) ↔ (m' = m0 ∧ ∃ d, c + 1 < d ∧ d ≤ ss_O s ∧ ss_K s d = 5 ∧ ss_W s d = w ∧ l ≤ ss_C s d) := by
        constructor
        · rintro ⟨e, d, d1, d2, d3, d4, d5⟩
          refine ⟨e, d, ?_, d2, d3, d4, d5⟩
          by_cases q : d ≤ c + 1
          · exact absurd d5 (none d d1 q d3)
          · omega
        · rintro ⟨e, d, d1, d2⟩
          exact ⟨e, d, by omega, d2⟩
      rw [eqv]
      exact h3 w m' hw hm
    · have i5 : ¬ nI (ss_lv (ss_K s) (ss_C s) l (c + 1)) ≤ 0 := nI_nle (by omega) (by omega)
      have k1 := h1 (c + 1) hc
      by_cases h5 : ss_K s (c + 1) = 5
      · have cl : l ≤ ss_C s (c + 1) := by
          by_cases q : l ≤ ss_C s (c + 1)
          · exact q
          · exact absurd (ss_lv_0 (fun j j1 j2 j5 => hK (c + 1) hc h5 (by omega) j j1 j2 j5)) z
        rw [if_pos ⟨h5, cl⟩] at u
        have wl := (hI.2.2.2.2.2.2.1 (c + 1) (by omega) hc).1
        have k2 := h2 (c + 1) (by omega) hc h5
        have i6 : nI (ss_W s (c + 1)) * 8 + nI m0 = nI (ss_W s (c + 1) * 8 + m0) := uv_8 _ _
        have i7 : vp_in (nI (ss_W s (c + 1) * 8 + m0)) 768 := vp_in_nI (by omega) (by omega)
        have i8 : (nI (ss_W s (c + 1) * 8 + m0)).toNatClampNeg = ss_W s (c + 1) * 8 + m0 := nI_clamp (by omega)
        have i9 : nI (ss_lv (ss_K s) (ss_C s) l (c + 1)) + (-1) = nI (ss_lv (ss_K s) (ss_C s) l c) := by rw [u]; exact pk_m1 _
        have K := ih m (uv_st B 7 (upd (B 7) (ss_W s (c + 1) * 8 + m0) 1)) (by omega) (by omega) h1 h2 (fun w m' hw hm => by
          show ((m' = m0 ∧ ∃ d, c < d ∧ d ≤ ss_O s ∧ ss_K s d = 5 ∧ ss_W s d = w ∧ l ≤ ss_C s d) → upd ((B 7)) (ss_W s (c + 1) * 8 + m0) 1 (w * 8 + m') = 1) ∧ (¬ (m' = m0 ∧ ∃ d, c < d ∧ d ≤ ss_O s ∧ ss_K s d = 5 ∧ ss_W s d = w ∧ l ≤ ss_C s d) → upd ((B 7)) (ss_W s (c + 1) * 8 + m0) 1 (w * 8 + m') = ct0 (w * 8 + m'))
          by_cases q : w = ss_W s (c + 1) ∧ m' = m0
          · rw [q.1, q.2, pk_us]
            refine ⟨fun _ => rfl, fun y => absurd ⟨rfl, c + 1, by omega, hc, h5, rfl, cl⟩ y⟩
          · rw [pk_un (fun y => q (by constructor <;> omega))]
            have eqv : (m' = m0 ∧ ∃ d, c < d ∧ d ≤ ss_O s ∧ ss_K s d = 5 ∧ ss_W s d = w ∧ l ≤ ss_C s d) ↔ (m' = m0 ∧ ∃ d, c + 1 < d ∧ d ≤ ss_O s ∧ ss_K s d = 5 ∧ ss_W s d = w ∧ l ≤ ss_C s d) := by
              constructor
              · rintro ⟨e, d, d1, d2, d3, d4, d5⟩
                refine ⟨e, d, ?_, d2, d3, d4, d5⟩
                have : d ≠ c + 1 := fun y => q ⟨by rw [← d4, y], e⟩
                omega
              · rintro ⟨e, d, d1, d2⟩
                exact ⟨e, d, by omega, d2⟩
            rw [eqv]
            exact h3 w m' hw hm) (fun ct' hct => hpost ct' hct)
        simp only [wY_capture_11, i1, i2, i3, i5, k1, h5, k2, i6, i7, i8, i9, i4, uv_b1, eq_self, true_implies, false_implies, forall_eq, true_and, and_true, not_true_eq_false, not_false_eq_true]
        exact K
      · rw [if_neg (fun y => h5 y.1), Nat.add_zero] at u
        have K := ih m B (by omega) (by omega) h1 h2 (fun w m' hw hm => by
          have eqv : (m' = m0 ∧ ∃ d, c < d ∧ d ≤ ss_O s ∧ ss_K s d = 5 ∧ ss_W s d = w ∧ l ≤ ss_C s d) ↔ (m' = m0 ∧ ∃ d, c + 1 < d ∧ d ≤ ss_O s ∧ ss_K s d = 5 ∧ ss_W s d = w ∧ l ≤ ss_C s d) := by
            constructor
            · rintro ⟨e, d, d1, d2, d3, d4, d5⟩
              refine ⟨e, d, ?_, d2, d3, d4, d5⟩
              have : d ≠ c + 1 := fun y => h5 (by rw [← y]; exact d3)
              omega
            · rintro ⟨e, d, d1, d2⟩
              exact ⟨e, d, by omega, d2⟩
          rw [eqv]
          exact h3 w m' hw hm) hpost
        rw [u] at i5 ⊢
        simp only [wY_capture_11, i1, i2, i3, i5, k1, h5, i4, eq_self, true_implies, false_implies, forall_eq, true_and, and_true, not_true_eq_false, not_false_eq_true]
        exact K
end
end
section
/-! one word read -/
theorem uv_n_0_1 : ¬ (0 : Int32) = 1 := by decide
theorem uv_n_0_2 : ¬ (0 : Int32) = 2 := by decide
theorem uv_n_0_3 : ¬ (0 : Int32) = 3 := by decide
theorem uv_n_0_4 : ¬ (0 : Int32) = 4 := by decide
theorem uv_n_0_5 : ¬ (0 : Int32) = 5 := by decide
theorem uv_n_0_6 : ¬ (0 : Int32) = 6 := by decide
theorem uv_n_0_7 : ¬ (0 : Int32) = 7 := by decide
theorem uv_n_0_8 : ¬ (0 : Int32) = 8 := by decide
theorem uv_n_0_9 : ¬ (0 : Int32) = 9 := by decide
theorem uv_n_0_10 : ¬ (0 : Int32) = 10 := by decide
theorem uv_n_0_11 : ¬ (0 : Int32) = 11 := by decide
theorem uv_n_0_12 : ¬ (0 : Int32) = 12 := by decide
theorem uv_n_0_13 : ¬ (0 : Int32) = 13 := by decide
theorem uv_n_0_14 : ¬ (0 : Int32) = 14 := by decide
theorem uv_n_0_15 : ¬ (0 : Int32) = 15 := by decide
theorem uv_n_0_16 : ¬ (0 : Int32) = 16 := by decide
theorem uv_n_0_17 : ¬ (0 : Int32) = 17 := by decide
theorem uv_n_0_18 : ¬ (0 : Int32) = 18 := by decide
theorem uv_n_0_19 : ¬ (0 : Int32) = 19 := by decide
theorem uv_n_0_20 : ¬ (0 : Int32) = 20 := by decide
theorem uv_n_1_0 : ¬ (1 : Int32) = 0 := by decide
theorem uv_n_1_2 : ¬ (1 : Int32) = 2 := by decide
theorem uv_n_1_3 : ¬ (1 : Int32) = 3 := by decide
theorem uv_n_1_4 : ¬ (1 : Int32) = 4 := by decide
theorem uv_n_1_5 : ¬ (1 : Int32) = 5 := by decide
theorem uv_n_1_6 : ¬ (1 : Int32) = 6 := by decide
theorem uv_n_1_7 : ¬ (1 : Int32) = 7 := by decide
theorem uv_n_1_8 : ¬ (1 : Int32) = 8 := by decide
theorem uv_n_1_9 : ¬ (1 : Int32) = 9 := by decide
theorem uv_n_1_10 : ¬ (1 : Int32) = 10 := by decide
theorem uv_n_1_11 : ¬ (1 : Int32) = 11 := by decide
theorem uv_n_1_12 : ¬ (1 : Int32) = 12 := by decide
theorem uv_n_1_13 : ¬ (1 : Int32) = 13 := by decide
theorem uv_n_1_14 : ¬ (1 : Int32) = 14 := by decide
theorem uv_n_1_15 : ¬ (1 : Int32) = 15 := by decide
theorem uv_n_1_16 : ¬ (1 : Int32) = 16 := by decide
theorem uv_n_1_17 : ¬ (1 : Int32) = 17 := by decide
theorem uv_n_1_18 : ¬ (1 : Int32) = 18 := by decide
theorem uv_n_1_19 : ¬ (1 : Int32) = 19 := by decide
theorem uv_n_1_20 : ¬ (1 : Int32) = 20 := by decide
theorem uv_n_2_0 : ¬ (2 : Int32) = 0 := by decide
theorem uv_n_2_1 : ¬ (2 : Int32) = 1 := by decide
theorem uv_n_2_3 : ¬ (2 : Int32) = 3 := by decide
theorem uv_n_2_4 : ¬ (2 : Int32) = 4 := by decide
theorem uv_n_2_5 : ¬ (2 : Int32) = 5 := by decide
theorem uv_n_2_6 : ¬ (2 : Int32) = 6 := by decide
theorem uv_n_2_7 : ¬ (2 : Int32) = 7 := by decide
theorem uv_n_2_8 : ¬ (2 : Int32) = 8 := by decide
theorem uv_n_2_9 : ¬ (2 : Int32) = 9 := by decide
theorem uv_n_2_10 : ¬ (2 : Int32) = 10 := by decide
theorem uv_n_2_11 : ¬ (2 : Int32) = 11 := by decide
theorem uv_n_2_12 : ¬ (2 : Int32) = 12 := by decide
theorem uv_n_2_13 : ¬ (2 : Int32) = 13 := by decide
theorem uv_n_2_14 : ¬ (2 : Int32) = 14 := by decide
theorem uv_n_2_15 : ¬ (2 : Int32) = 15 := by decide
theorem uv_n_2_16 : ¬ (2 : Int32) = 16 := by decide
theorem uv_n_2_17 : ¬ (2 : Int32) = 17 := by decide
theorem uv_n_2_18 : ¬ (2 : Int32) = 18 := by decide
theorem uv_n_2_19 : ¬ (2 : Int32) = 19 := by decide
theorem uv_n_2_20 : ¬ (2 : Int32) = 20 := by decide
theorem uv_n_3_0 : ¬ (3 : Int32) = 0 := by decide
theorem uv_n_3_1 : ¬ (3 : Int32) = 1 := by decide
theorem uv_n_3_2 : ¬ (3 : Int32) = 2 := by decide
theorem uv_n_3_4 : ¬ (3 : Int32) = 4 := by decide
theorem uv_n_3_5 : ¬ (3 : Int32) = 5 := by decide
theorem uv_n_3_6 : ¬ (3 : Int32) = 6 := by decide
theorem uv_n_3_7 : ¬ (3 : Int32) = 7 := by decide
theorem uv_n_3_8 : ¬ (3 : Int32) = 8 := by decide
theorem uv_n_3_9 : ¬ (3 : Int32) = 9 := by decide
theorem uv_n_3_10 : ¬ (3 : Int32) = 10 := by decide
theorem uv_n_3_11 : ¬ (3 : Int32) = 11 := by decide
theorem uv_n_3_12 : ¬ (3 : Int32) = 12 := by decide
theorem uv_n_3_13 : ¬ (3 : Int32) = 13 := by decide
theorem uv_n_3_14 : ¬ (3 : Int32) = 14 := by decide
theorem uv_n_3_15 : ¬ (3 : Int32) = 15 := by decide
theorem uv_n_3_16 : ¬ (3 : Int32) = 16 := by decide
theorem uv_n_3_17 : ¬ (3 : Int32) = 17 := by decide
theorem uv_n_3_18 : ¬ (3 : Int32) = 18 := by decide
theorem uv_n_3_19 : ¬ (3 : Int32) = 19 := by decide
theorem uv_n_3_20 : ¬ (3 : Int32) = 20 := by decide
theorem uv_n_4_0 : ¬ (4 : Int32) = 0 := by decide
theorem uv_n_4_1 : ¬ (4 : Int32) = 1 := by decide
theorem uv_n_4_2 : ¬ (4 : Int32) = 2 := by decide
theorem uv_n_4_3 : ¬ (4 : Int32) = 3 := by decide
theorem uv_n_4_5 : ¬ (4 : Int32) = 5 := by decide
theorem uv_n_4_6 : ¬ (4 : Int32) = 6 := by decide
theorem uv_n_4_7 : ¬ (4 : Int32) = 7 := by decide
theorem uv_n_4_8 : ¬ (4 : Int32) = 8 := by decide
theorem uv_n_4_9 : ¬ (4 : Int32) = 9 := by decide
theorem uv_n_4_10 : ¬ (4 : Int32) = 10 := by decide
theorem uv_n_4_11 : ¬ (4 : Int32) = 11 := by decide
theorem uv_n_4_12 : ¬ (4 : Int32) = 12 := by decide
theorem uv_n_4_13 : ¬ (4 : Int32) = 13 := by decide
theorem uv_n_4_14 : ¬ (4 : Int32) = 14 := by decide
theorem uv_n_4_15 : ¬ (4 : Int32) = 15 := by decide
theorem uv_n_4_16 : ¬ (4 : Int32) = 16 := by decide
theorem uv_n_4_17 : ¬ (4 : Int32) = 17 := by decide
theorem uv_n_4_18 : ¬ (4 : Int32) = 18 := by decide
theorem uv_n_4_19 : ¬ (4 : Int32) = 19 := by decide
theorem uv_n_4_20 : ¬ (4 : Int32) = 20 := by decide
theorem uv_n_5_0 : ¬ (5 : Int32) = 0 := by decide
theorem uv_n_5_1 : ¬ (5 : Int32) = 1 := by decide
theorem uv_n_5_2 : ¬ (5 : Int32) = 2 := by decide
theorem uv_n_5_3 : ¬ (5 : Int32) = 3 := by decide
theorem uv_n_5_4 : ¬ (5 : Int32) = 4 := by decide
theorem uv_n_5_6 : ¬ (5 : Int32) = 6 := by decide
theorem uv_n_5_7 : ¬ (5 : Int32) = 7 := by decide
theorem uv_n_5_8 : ¬ (5 : Int32) = 8 := by decide
theorem uv_n_5_9 : ¬ (5 : Int32) = 9 := by decide
theorem uv_n_5_10 : ¬ (5 : Int32) = 10 := by decide
theorem uv_n_5_11 : ¬ (5 : Int32) = 11 := by decide
theorem uv_n_5_12 : ¬ (5 : Int32) = 12 := by decide
theorem uv_n_5_13 : ¬ (5 : Int32) = 13 := by decide
theorem uv_n_5_14 : ¬ (5 : Int32) = 14 := by decide
theorem uv_n_5_15 : ¬ (5 : Int32) = 15 := by decide
theorem uv_n_5_16 : ¬ (5 : Int32) = 16 := by decide
theorem uv_n_5_17 : ¬ (5 : Int32) = 17 := by decide
theorem uv_n_5_18 : ¬ (5 : Int32) = 18 := by decide
theorem uv_n_5_19 : ¬ (5 : Int32) = 19 := by decide
theorem uv_n_5_20 : ¬ (5 : Int32) = 20 := by decide
theorem uv_n_6_0 : ¬ (6 : Int32) = 0 := by decide
theorem uv_n_6_1 : ¬ (6 : Int32) = 1 := by decide
theorem uv_n_6_2 : ¬ (6 : Int32) = 2 := by decide
theorem uv_n_6_3 : ¬ (6 : Int32) = 3 := by decide
theorem uv_n_6_4 : ¬ (6 : Int32) = 4 := by decide
theorem uv_n_6_5 : ¬ (6 : Int32) = 5 := by decide
theorem uv_n_6_7 : ¬ (6 : Int32) = 7 := by decide
theorem uv_n_6_8 : ¬ (6 : Int32) = 8 := by decide
theorem uv_n_6_9 : ¬ (6 : Int32) = 9 := by decide
theorem uv_n_6_10 : ¬ (6 : Int32) = 10 := by decide
theorem uv_n_6_11 : ¬ (6 : Int32) = 11 := by decide
theorem uv_n_6_12 : ¬ (6 : Int32) = 12 := by decide
theorem uv_n_6_13 : ¬ (6 : Int32) = 13 := by decide
theorem uv_n_6_14 : ¬ (6 : Int32) = 14 := by decide
theorem uv_n_6_15 : ¬ (6 : Int32) = 15 := by decide
theorem uv_n_6_16 : ¬ (6 : Int32) = 16 := by decide
theorem uv_n_6_17 : ¬ (6 : Int32) = 17 := by decide
theorem uv_n_6_18 : ¬ (6 : Int32) = 18 := by decide
theorem uv_n_6_19 : ¬ (6 : Int32) = 19 := by decide
theorem uv_n_6_20 : ¬ (6 : Int32) = 20 := by decide
theorem uv_n_7_0 : ¬ (7 : Int32) = 0 := by decide
theorem uv_n_7_1 : ¬ (7 : Int32) = 1 := by decide
theorem uv_n_7_2 : ¬ (7 : Int32) = 2 := by decide
theorem uv_n_7_3 : ¬ (7 : Int32) = 3 := by decide
theorem uv_n_7_4 : ¬ (7 : Int32) = 4 := by decide
theorem uv_n_7_5 : ¬ (7 : Int32) = 5 := by decide
theorem uv_n_7_6 : ¬ (7 : Int32) = 6 := by decide
theorem uv_n_7_8 : ¬ (7 : Int32) = 8 := by decide
theorem uv_n_7_9 : ¬ (7 : Int32) = 9 := by decide
theorem uv_n_7_10 : ¬ (7 : Int32) = 10 := by decide
theorem uv_n_7_11 : ¬ (7 : Int32) = 11 := by decide
theorem uv_n_7_12 : ¬ (7 : Int32) = 12 := by decide
theorem uv_n_7_13 : ¬ (7 : Int32) = 13 := by decide
theorem uv_n_7_14 : ¬ (7 : Int32) = 14 := by decide
theorem uv_n_7_15 : ¬ (7 : Int32) = 15 := by decide
theorem uv_n_7_16 : ¬ (7 : Int32) = 16 := by decide
theorem uv_n_7_17 : ¬ (7 : Int32) = 17 := by decide
theorem uv_n_7_18 : ¬ (7 : Int32) = 18 := by decide
theorem uv_n_7_19 : ¬ (7 : Int32) = 19 := by decide
theorem uv_n_7_20 : ¬ (7 : Int32) = 20 := by decide
theorem uv_n_8_0 : ¬ (8 : Int32) = 0 := by decide
theorem uv_n_8_1 : ¬ (8 : Int32) = 1 := by decide
theorem uv_n_8_2 : ¬ (8 : Int32) = 2 := by decide
theorem uv_n_8_3 : ¬ (8 : Int32) = 3 := by decide
theorem uv_n_8_4 : ¬ (8 : Int32) = 4 := by decide
theorem uv_n_8_5 : ¬ (8 : Int32) = 5 := by decide
theorem uv_n_8_6 : ¬ (8 : Int32) = 6 := by decide
theorem uv_n_8_7 : ¬ (8 : Int32) = 7 := by decide
theorem uv_n_8_9 : ¬ (8 : Int32) = 9 := by decide
theorem uv_n_8_10 : ¬ (8 : Int32) = 10 := by decide
theorem uv_n_8_11 : ¬ (8 : Int32) = 11 := by decide
theorem uv_n_8_12 : ¬ (8 : Int32) = 12 := by decide
theorem uv_n_8_13 : ¬ (8 : Int32) = 13 := by decide
theorem uv_n_8_14 : ¬ (8 : Int32) = 14 := by decide
theorem uv_n_8_15 : ¬ (8 : Int32) = 15 := by decide
theorem uv_n_8_16 : ¬ (8 : Int32) = 16 := by decide
theorem uv_n_8_17 : ¬ (8 : Int32) = 17 := by decide
theorem uv_n_8_18 : ¬ (8 : Int32) = 18 := by decide
theorem uv_n_8_19 : ¬ (8 : Int32) = 19 := by decide
theorem uv_n_8_20 : ¬ (8 : Int32) = 20 := by decide
theorem uv_n_9_0 : ¬ (9 : Int32) = 0 := by decide
theorem uv_n_9_1 : ¬ (9 : Int32) = 1 := by decide
theorem uv_n_9_2 : ¬ (9 : Int32) = 2 := by decide
theorem uv_n_9_3 : ¬ (9 : Int32) = 3 := by decide
theorem uv_n_9_4 : ¬ (9 : Int32) = 4 := by decide
theorem uv_n_9_5 : ¬ (9 : Int32) = 5 := by decide
theorem uv_n_9_6 : ¬ (9 : Int32) = 6 := by decide
theorem uv_n_9_7 : ¬ (9 : Int32) = 7 := by decide
theorem uv_n_9_8 : ¬ (9 : Int32) = 8 := by decide
theorem uv_n_9_10 : ¬ (9 : Int32) = 10 := by decide
theorem uv_n_9_11 : ¬ (9 : Int32) = 11 := by decide
theorem uv_n_9_12 : ¬ (9 : Int32) = 12 := by decide
theorem uv_n_9_13 : ¬ (9 : Int32) = 13 := by decide
theorem uv_n_9_14 : ¬ (9 : Int32) = 14 := by decide
theorem uv_n_9_15 : ¬ (9 : Int32) = 15 := by decide
theorem uv_n_9_16 : ¬ (9 : Int32) = 16 := by decide
theorem uv_n_9_17 : ¬ (9 : Int32) = 17 := by decide
theorem uv_n_9_18 : ¬ (9 : Int32) = 18 := by decide
theorem uv_n_9_19 : ¬ (9 : Int32) = 19 := by decide
theorem uv_n_9_20 : ¬ (9 : Int32) = 20 := by decide
theorem uv_n_10_0 : ¬ (10 : Int32) = 0 := by decide
theorem uv_n_10_1 : ¬ (10 : Int32) = 1 := by decide
theorem uv_n_10_2 : ¬ (10 : Int32) = 2 := by decide
theorem uv_n_10_3 : ¬ (10 : Int32) = 3 := by decide
theorem uv_n_10_4 : ¬ (10 : Int32) = 4 := by decide
theorem uv_n_10_5 : ¬ (10 : Int32) = 5 := by decide
theorem uv_n_10_6 : ¬ (10 : Int32) = 6 := by decide
theorem uv_n_10_7 : ¬ (10 : Int32) = 7 := by decide
theorem uv_n_10_8 : ¬ (10 : Int32) = 8 := by decide
theorem uv_n_10_9 : ¬ (10 : Int32) = 9 := by decide
theorem uv_n_10_11 : ¬ (10 : Int32) = 11 := by decide
theorem uv_n_10_12 : ¬ (10 : Int32) = 12 := by decide
theorem uv_n_10_13 : ¬ (10 : Int32) = 13 := by decide
theorem uv_n_10_14 : ¬ (10 : Int32) = 14 := by decide
theorem uv_n_10_15 : ¬ (10 : Int32) = 15 := by decide
theorem uv_n_10_16 : ¬ (10 : Int32) = 16 := by decide
theorem uv_n_10_17 : ¬ (10 : Int32) = 17 := by decide
theorem uv_n_10_18 : ¬ (10 : Int32) = 18 := by decide
theorem uv_n_10_19 : ¬ (10 : Int32) = 19 := by decide
theorem uv_n_10_20 : ¬ (10 : Int32) = 20 := by decide
theorem uv_n_11_0 : ¬ (11 : Int32) = 0 := by decide
theorem uv_n_11_1 : ¬ (11 : Int32) = 1 := by decide
theorem uv_n_11_2 : ¬ (11 : Int32) = 2 := by decide
theorem uv_n_11_3 : ¬ (11 : Int32) = 3 := by decide
theorem uv_n_11_4 : ¬ (11 : Int32) = 4 := by decide
theorem uv_n_11_5 : ¬ (11 : Int32) = 5 := by decide
theorem uv_n_11_6 : ¬ (11 : Int32) = 6 := by decide
theorem uv_n_11_7 : ¬ (11 : Int32) = 7 := by decide
theorem uv_n_11_8 : ¬ (11 : Int32) = 8 := by decide
theorem uv_n_11_9 : ¬ (11 : Int32) = 9 := by decide
theorem uv_n_11_10 : ¬ (11 : Int32) = 10 := by decide
theorem uv_n_11_12 : ¬ (11 : Int32) = 12 := by decide
theorem uv_n_11_13 : ¬ (11 : Int32) = 13 := by decide
theorem uv_n_11_14 : ¬ (11 : Int32) = 14 := by decide
theorem uv_n_11_15 : ¬ (11 : Int32) = 15 := by decide
theorem uv_n_11_16 : ¬ (11 : Int32) = 16 := by decide
theorem uv_n_11_17 : ¬ (11 : Int32) = 17 := by decide
theorem uv_n_11_18 : ¬ (11 : Int32) = 18 := by decide
theorem uv_n_11_19 : ¬ (11 : Int32) = 19 := by decide
theorem uv_n_11_20 : ¬ (11 : Int32) = 20 := by decide
theorem uv_n_12_0 : ¬ (12 : Int32) = 0 := by decide
theorem uv_n_12_1 : ¬ (12 : Int32) = 1 := by decide
theorem uv_n_12_2 : ¬ (12 : Int32) = 2 := by decide
theorem uv_n_12_3 : ¬ (12 : Int32) = 3 := by decide
theorem uv_n_12_4 : ¬ (12 : Int32) = 4 := by decide
theorem uv_n_12_5 : ¬ (12 : Int32) = 5 := by decide
theorem uv_n_12_6 : ¬ (12 : Int32) = 6 := by decide
theorem uv_n_12_7 : ¬ (12 : Int32) = 7 := by decide
theorem uv_n_12_8 : ¬ (12 : Int32) = 8 := by decide
theorem uv_n_12_9 : ¬ (12 : Int32) = 9 := by decide
theorem uv_n_12_10 : ¬ (12 : Int32) = 10 := by decide
theorem uv_n_12_11 : ¬ (12 : Int32) = 11 := by decide
theorem uv_n_12_13 : ¬ (12 : Int32) = 13 := by decide
theorem uv_n_12_14 : ¬ (12 : Int32) = 14 := by decide
theorem uv_n_12_15 : ¬ (12 : Int32) = 15 := by decide
theorem uv_n_12_16 : ¬ (12 : Int32) = 16 := by decide
theorem uv_n_12_17 : ¬ (12 : Int32) = 17 := by decide
theorem uv_n_12_18 : ¬ (12 : Int32) = 18 := by decide
theorem uv_n_12_19 : ¬ (12 : Int32) = 19 := by decide
theorem uv_n_12_20 : ¬ (12 : Int32) = 20 := by decide
theorem uv_n_13_0 : ¬ (13 : Int32) = 0 := by decide
theorem uv_n_13_1 : ¬ (13 : Int32) = 1 := by decide
theorem uv_n_13_2 : ¬ (13 : Int32) = 2 := by decide
theorem uv_n_13_3 : ¬ (13 : Int32) = 3 := by decide
theorem uv_n_13_4 : ¬ (13 : Int32) = 4 := by decide
theorem uv_n_13_5 : ¬ (13 : Int32) = 5 := by decide
theorem uv_n_13_6 : ¬ (13 : Int32) = 6 := by decide
theorem uv_n_13_7 : ¬ (13 : Int32) = 7 := by decide
theorem uv_n_13_8 : ¬ (13 : Int32) = 8 := by decide
theorem uv_n_13_9 : ¬ (13 : Int32) = 9 := by decide
theorem uv_n_13_10 : ¬ (13 : Int32) = 10 := by decide
theorem uv_n_13_11 : ¬ (13 : Int32) = 11 := by decide
theorem uv_n_13_12 : ¬ (13 : Int32) = 12 := by decide
theorem uv_n_13_14 : ¬ (13 : Int32) = 14 := by decide
theorem uv_n_13_15 : ¬ (13 : Int32) = 15 := by decide
theorem uv_n_13_16 : ¬ (13 : Int32) = 16 := by decide
theorem uv_n_13_17 : ¬ (13 : Int32) = 17 := by decide
theorem uv_n_13_18 : ¬ (13 : Int32) = 18 := by decide
theorem uv_n_13_19 : ¬ (13 : Int32) = 19 := by decide
theorem uv_n_13_20 : ¬ (13 : Int32) = 20 := by decide
theorem uv_n_14_0 : ¬ (14 : Int32) = 0 := by decide
theorem uv_n_14_1 : ¬ (14 : Int32) = 1 := by decide
theorem uv_n_14_2 : ¬ (14 : Int32) = 2 := by decide
theorem uv_n_14_3 : ¬ (14 : Int32) = 3 := by decide
theorem uv_n_14_4 : ¬ (14 : Int32) = 4 := by decide
theorem uv_n_14_5 : ¬ (14 : Int32) = 5 := by decide
theorem uv_n_14_6 : ¬ (14 : Int32) = 6 := by decide
theorem uv_n_14_7 : ¬ (14 : Int32) = 7 := by decide
theorem uv_n_14_8 : ¬ (14 : Int32) = 8 := by decide
theorem uv_n_14_9 : ¬ (14 : Int32) = 9 := by decide
theorem uv_n_14_10 : ¬ (14 : Int32) = 10 := by decide
theorem uv_n_14_11 : ¬ (14 : Int32) = 11 := by decide
theorem uv_n_14_12 : ¬ (14 : Int32) = 12 := by decide
theorem uv_n_14_13 : ¬ (14 : Int32) = 13 := by decide
theorem uv_n_14_15 : ¬ (14 : Int32) = 15 := by decide
theorem uv_n_14_16 : ¬ (14 : Int32) = 16 := by decide
theorem uv_n_14_17 : ¬ (14 : Int32) = 17 := by decide
theorem uv_n_14_18 : ¬ (14 : Int32) = 18 := by decide
theorem uv_n_14_19 : ¬ (14 : Int32) = 19 := by decide
theorem uv_n_14_20 : ¬ (14 : Int32) = 20 := by decide
theorem uv_n_15_0 : ¬ (15 : Int32) = 0 := by decide
theorem uv_n_15_1 : ¬ (15 : Int32) = 1 := by decide
theorem uv_n_15_2 : ¬ (15 : Int32) = 2 := by decide
theorem uv_n_15_3 : ¬ (15 : Int32) = 3 := by decide
theorem uv_n_15_4 : ¬ (15 : Int32) = 4 := by decide
theorem uv_n_15_5 : ¬ (15 : Int32) = 5 := by decide
theorem uv_n_15_6 : ¬ (15 : Int32) = 6 := by decide
theorem uv_n_15_7 : ¬ (15 : Int32) = 7 := by decide
theorem uv_n_15_8 : ¬ (15 : Int32) = 8 := by decide
theorem uv_n_15_9 : ¬ (15 : Int32) = 9 := by decide
theorem uv_n_15_10 : ¬ (15 : Int32) = 10 := by decide
theorem uv_n_15_11 : ¬ (15 : Int32) = 11 := by decide
theorem uv_n_15_12 : ¬ (15 : Int32) = 12 := by decide
theorem uv_n_15_13 : ¬ (15 : Int32) = 13 := by decide
theorem uv_n_15_14 : ¬ (15 : Int32) = 14 := by decide
theorem uv_n_15_16 : ¬ (15 : Int32) = 16 := by decide
theorem uv_n_15_17 : ¬ (15 : Int32) = 17 := by decide
theorem uv_n_15_18 : ¬ (15 : Int32) = 18 := by decide
theorem uv_n_15_19 : ¬ (15 : Int32) = 19 := by decide
theorem uv_n_15_20 : ¬ (15 : Int32) = 20 := by decide
theorem uv_n_16_0 : ¬ (16 : Int32) = 0 := by decide
theorem uv_n_16_1 : ¬ (16 : Int32) = 1 := by decide
theorem uv_n_16_2 : ¬ (16 : Int32) = 2 := by decide
theorem uv_n_16_3 : ¬ (16 : Int32) = 3 := by decide
theorem uv_n_16_4 : ¬ (16 : Int32) = 4 := by decide
theorem uv_n_16_5 : ¬ (16 : Int32) = 5 := by decide
theorem uv_n_16_6 : ¬ (16 : Int32) = 6 := by decide
theorem uv_n_16_7 : ¬ (16 : Int32) = 7 := by decide
theorem uv_n_16_8 : ¬ (16 : Int32) = 8 := by decide
theorem uv_n_16_9 : ¬ (16 : Int32) = 9 := by decide
theorem uv_n_16_10 : ¬ (16 : Int32) = 10 := by decide
theorem uv_n_16_11 : ¬ (16 : Int32) = 11 := by decide
theorem uv_n_16_12 : ¬ (16 : Int32) = 12 := by decide
theorem uv_n_16_13 : ¬ (16 : Int32) = 13 := by decide
theorem uv_n_16_14 : ¬ (16 : Int32) = 14 := by decide
theorem uv_n_16_15 : ¬ (16 : Int32) = 15 := by decide
theorem uv_n_16_17 : ¬ (16 : Int32) = 17 := by decide
theorem uv_n_16_18 : ¬ (16 : Int32) = 18 := by decide
theorem uv_n_16_19 : ¬ (16 : Int32) = 19 := by decide
theorem uv_n_16_20 : ¬ (16 : Int32) = 20 := by decide
theorem uv_n_17_0 : ¬ (17 : Int32) = 0 := by decide
theorem uv_n_17_1 : ¬ (17 : Int32) = 1 := by decide
theorem uv_n_17_2 : ¬ (17 : Int32) = 2 := by decide
theorem uv_n_17_3 : ¬ (17 : Int32) = 3 := by decide
theorem uv_n_17_4 : ¬ (17 : Int32) = 4 := by decide
theorem uv_n_17_5 : ¬ (17 : Int32) = 5 := by decide
theorem uv_n_17_6 : ¬ (17 : Int32) = 6 := by decide
theorem uv_n_17_7 : ¬ (17 : Int32) = 7 := by decide
theorem uv_n_17_8 : ¬ (17 : Int32) = 8 := by decide
theorem uv_n_17_9 : ¬ (17 : Int32) = 9 := by decide
theorem uv_n_17_10 : ¬ (17 : Int32) = 10 := by decide
theorem uv_n_17_11 : ¬ (17 : Int32) = 11 := by decide
theorem uv_n_17_12 : ¬ (17 : Int32) = 12 := by decide
theorem uv_n_17_13 : ¬ (17 : Int32) = 13 := by decide
theorem uv_n_17_14 : ¬ (17 : Int32) = 14 := by decide
theorem uv_n_17_15 : ¬ (17 : Int32) = 15 := by decide
theorem uv_n_17_16 : ¬ (17 : Int32) = 16 := by decide
theorem uv_n_17_18 : ¬ (17 : Int32) = 18 := by decide
theorem uv_n_17_19 : ¬ (17 : Int32) = 19 := by decide
theorem uv_n_17_20 : ¬ (17 : Int32) = 20 := by decide
theorem uv_n_18_0 : ¬ (18 : Int32) = 0 := by decide
theorem uv_n_18_1 : ¬ (18 : Int32) = 1 := by decide
theorem uv_n_18_2 : ¬ (18 : Int32) = 2 := by decide
theorem uv_n_18_3 : ¬ (18 : Int32) = 3 := by decide
theorem uv_n_18_4 : ¬ (18 : Int32) = 4 := by decide
theorem uv_n_18_5 : ¬ (18 : Int32) = 5 := by decide
theorem uv_n_18_6 : ¬ (18 : Int32) = 6 := by decide
theorem uv_n_18_7 : ¬ (18 : Int32) = 7 := by decide
theorem uv_n_18_8 : ¬ (18 : Int32) = 8 := by decide
theorem uv_n_18_9 : ¬ (18 : Int32) = 9 := by decide
theorem uv_n_18_10 : ¬ (18 : Int32) = 10 := by decide
theorem uv_n_18_11 : ¬ (18 : Int32) = 11 := by decide
theorem uv_n_18_12 : ¬ (18 : Int32) = 12 := by decide
theorem uv_n_18_13 : ¬ (18 : Int32) = 13 := by decide
theorem uv_n_18_14 : ¬ (18 : Int32) = 14 := by decide
theorem uv_n_18_15 : ¬ (18 : Int32) = 15 := by decide
theorem uv_n_18_16 : ¬ (18 : Int32) = 16 := by decide
theorem uv_n_18_17 : ¬ (18 : Int32) = 17 := by decide
theorem uv_n_18_19 : ¬ (18 : Int32) = 19 := by decide
theorem uv_n_18_20 : ¬ (18 : Int32) = 20 := by decide
theorem uv_n_19_0 : ¬ (19 : Int32) = 0 := by decide
theorem uv_n_19_1 : ¬ (19 : Int32) = 1 := by decide
theorem uv_n_19_2 : ¬ (19 : Int32) = 2 := by decide
theorem uv_n_19_3 : ¬ (19 : Int32) = 3 := by decide
theorem uv_n_19_4 : ¬ (19 : Int32) = 4 := by decide
theorem uv_n_19_5 : ¬ (19 : Int32) = 5 := by decide
theorem uv_n_19_6 : ¬ (19 : Int32) = 6 := by decide
theorem uv_n_19_7 : ¬ (19 : Int32) = 7 := by decide
theorem uv_n_19_8 : ¬ (19 : Int32) = 8 := by decide
theorem uv_n_19_9 : ¬ (19 : Int32) = 9 := by decide
theorem uv_n_19_10 : ¬ (19 : Int32) = 10 := by decide
theorem uv_n_19_11 : ¬ (19 : Int32) = 11 := by decide
theorem uv_n_19_12 : ¬ (19 : Int32) = 12 := by decide
theorem uv_n_19_13 : ¬ (19 : Int32) = 13 := by decide
theorem uv_n_19_14 : ¬ (19 : Int32) = 14 := by decide
theorem uv_n_19_15 : ¬ (19 : Int32) = 15 := by decide
theorem uv_n_19_16 : ¬ (19 : Int32) = 16 := by decide
theorem uv_n_19_17 : ¬ (19 : Int32) = 17 := by decide
theorem uv_n_19_18 : ¬ (19 : Int32) = 18 := by decide
theorem uv_n_19_20 : ¬ (19 : Int32) = 20 := by decide
theorem uv_n_20_0 : ¬ (20 : Int32) = 0 := by decide
theorem uv_n_20_1 : ¬ (20 : Int32) = 1 := by decide
theorem uv_n_20_2 : ¬ (20 : Int32) = 2 := by decide
theorem uv_n_20_3 : ¬ (20 : Int32) = 3 := by decide
theorem uv_n_20_4 : ¬ (20 : Int32) = 4 := by decide
theorem uv_n_20_5 : ¬ (20 : Int32) = 5 := by decide
theorem uv_n_20_6 : ¬ (20 : Int32) = 6 := by decide
theorem uv_n_20_7 : ¬ (20 : Int32) = 7 := by decide
theorem uv_n_20_8 : ¬ (20 : Int32) = 8 := by decide
theorem uv_n_20_9 : ¬ (20 : Int32) = 9 := by decide
theorem uv_n_20_10 : ¬ (20 : Int32) = 10 := by decide
theorem uv_n_20_11 : ¬ (20 : Int32) = 11 := by decide
theorem uv_n_20_12 : ¬ (20 : Int32) = 12 := by decide
theorem uv_n_20_13 : ¬ (20 : Int32) = 13 := by decide
theorem uv_n_20_14 : ¬ (20 : Int32) = 14 := by decide
theorem uv_n_20_15 : ¬ (20 : Int32) = 15 := by decide
theorem uv_n_20_16 : ¬ (20 : Int32) = 16 := by decide
theorem uv_n_20_17 : ¬ (20 : Int32) = 17 := by decide
theorem uv_n_20_18 : ¬ (20 : Int32) = 18 := by decide
theorem uv_n_20_19 : ¬ (20 : Int32) = 19 := by decide
section
variable {k a : Nat → Int32} {S : Nat → ss_T} {p n : Nat} {op fn vr fu : Int32} {cK cW cV cO vN ct ct' : Nat → Int32}
def ys_ct (k a : Nat → Int32) (S : Nat → ss_T) (p : Nat) (ct : Nat → Int32) : Prop :=
  ∀ w m, w < 96 → m < 8 → (ss_cap k a S p w (nI m) → ct (w * 8 + m) = 1) ∧ (¬ ss_cap k a S p w (nI m) → ct (w * 8 + m) = 0)
theorem ya_ct (h : ys_A k a S p op fn vr fu cK cW cV cO vN ct) (h1 : k p ≠ 1) (h6 : k p ≠ 6) : ys_ct k a S (p + 1) ct := by
  intro w m hw hm
  have e : ss_cap k a S (p + 1) w (nI m) ↔ ss_cap k a S p w (nI m) := by
    rw [ss_cap_s]
    constructor
    · rintro (z | ⟨z | z, _⟩)
      · exact z
      · exact absurd z h1
      · exact absurd z h6
    · exact Or.inl
  rw [e]
  exact h.2.2.2.2.2.2.2.2 w m hw hm
theorem ya_smp {q : Nat} (h : ys_A k a S p op fn vr fu cK cW cV cO vN ct) (e : S (p + 1) = ss_smp (S p) q) (hc : ys_ct k a S (p + 1) ct') : ys_A k a S (p + 1) op fn vr fu cK cW cV (upd cO (ss_f (S p)) (nI q)) vN ct' := by
  obtain ⟨a1, a2, a3, a4, a5, a6, a7, a8, a9⟩ := h
  unfold ys_A
  refine ⟨?_, ?_, ?_, ?_, ?_, ?_, ?_, ?_, hc⟩ <;> rw [e]
  · exact a1
  · exact a2
  · exact a3
  · exact a4
  · exact a5
  · intro i hi hk
    rw [ss_smp_P]
    by_cases c : i = ss_f (S p)
    · rw [c, pk_us, uv_se]
    · rw [pk_un c, uv_sn c]; exact a6 i hi hk
  · exact a7
  · exact a8
theorem ya_dcl {x : Int32} (h : ys_A k a S p op fn vr fu cK cW cV cO vN ct) (e : S (p + 1) = ss_dcl (S p) x) (hc : ys_ct k a S (p + 1) ct') : ys_A k a S (p + 1) op fn (nI (ss_V (S p) + 1)) fu cK cW cV (upd cO (ss_f (S p)) 0) (upd vN (ss_V (S p)) x) ct' := by
  obtain ⟨a1, a2, a3, a4, a5, a6, a7, a8, a9⟩ := h
  unfold ys_A
  refine ⟨?_, ?_, ?_, ?_, ?_, ?_, ?_, ?_, hc⟩ <;> rw [e]
  · exact a1
  · exact a2
  · rfl
  · exact a4
  · exact a5
  · intro i hi hk
    rw [ss_dcl_P]
    by_cases c : i = ss_f (S p)
    · rw [c, pk_us, uv_se]; rfl
    · rw [pk_un c, uv_sn c]; exact a6 i hi hk
  · exact a7
  · intro j hj
    rw [ss_dcl_V] at hj
    rw [ss_dcl_N]
    by_cases c : j = ss_V (S p)
    · rw [c, pk_us, uv_se]
    · rw [pk_un c, uv_sn c]; exact a8 j (by omega)
theorem ya_fun {x : Int32} (h : ys_A k a S p op fn vr fu cK cW cV cO vN ct) (e : S (p + 1) = ss_fun (S p) p x) (hc : ys_ct k a S (p + 1) ct') :
    ys_A k a S (p + 1) (nI (ss_O (S p) + 1)) (nI (ss_O (S p) + 1)) (nI (ss_V (S p) + 1)) (nI (ss_F (S p) + 1)) (upd cK (ss_O (S p) + 1) 5) (upd cW (ss_O (S p) + 1) (nI p)) (upd cV (ss_O (S p) + 1) (nI (ss_V (S p)))) (upd cO (ss_O (S p) + 1) 0) (upd vN (ss_V (S p)) x) ct' := by
  obtain ⟨a1, a2, a3, a4, a5, a6, a7, a8, a9⟩ := h
  have eF : ss_f (ss_fun (S p) p x) = ss_O (S p) + 1 := ss_fx_s5 uv_se
  unfold ys_A
  refine ⟨?_, ?_, ?_, ?_, ?_, ?_, ?_, ?_, hc⟩ <;> rw [e]
  · rfl
  · rw [eF]
  · rfl
  · rfl
  · intro i hi
    rw [ss_fun_O] at hi
    rw [ss_fun_K, ss_fun_C]
    by_cases c : i = ss_O (S p) + 1
    · rw [c, pk_us, pk_us, uv_se, uv_se]; exact ⟨rfl, rfl⟩
    · rw [pk_un c, pk_un c, uv_sn c, uv_sn c]; exact a5 i (by omega)
  · intro i hi hk
    rw [ss_fun_O] at hi
    rw [ss_fun_K] at hk
    rw [ss_fun_P]
    by_cases c : i = ss_O (S p) + 1
    · rw [c, pk_us, uv_se]; rfl
    · rw [uv_sn c] at hk
      rw [pk_un c, uv_sn c]; exact a6 i (by omega) hk
  · intro i h1 hi hk
    rw [ss_fun_O] at hi
    rw [ss_fun_K] at hk
    rw [ss_fun_W]
    by_cases c : i = ss_O (S p) + 1
    · rw [c, pk_us, uv_se]
    · rw [uv_sn c] at hk
      rw [pk_un c, uv_sn c]; exact a7 i h1 (by omega) hk
  · intro j hj
    rw [ss_fun_V] at hj
    rw [ss_fun_N]
    by_cases c : j = ss_V (S p)
    · rw [c, pk_us, uv_se]
    · rw [pk_un c, uv_sn c]; exact a8 j (by omega)
theorem ss_blk_f {s : ss_T} {p : Nat} {x : Int32} (hx : x ≠ 5) : ss_f (ss_blk s p x) = ss_f s := by
  show ss_fx (uv_st (ss_K s) (ss_O s + 1) x) (ss_O s + 1) = ss_fx (ss_K s) (ss_O s)
  rw [ss_fx_sn (by rw [uv_se]; exact hx)]
  exact ss_fx_cg (fun d hd => uv_sn (by omega))
theorem ya_blk {x : Int32} (hx : x ≠ 5) (h : ys_A k a S p op fn vr fu cK cW cV cO vN ct) (e : S (p + 1) = ss_blk (S p) p x) (hc : ys_ct k a S (p + 1) ct') :
    ys_A k a S (p + 1) (nI (ss_O (S p) + 1)) fn vr fu (upd cK (ss_O (S p) + 1) x) (upd cW (ss_O (S p) + 1) (nI p)) (upd cV (ss_O (S p) + 1) (nI (ss_V (S p)))) (upd (upd cO (ss_f (S p)) 0) (ss_O (S p) + 1) 0) vN ct' := by
  obtain ⟨a1, a2, a3, a4, a5, a6, a7, a8, a9⟩ := h
  unfold ys_A
  refine ⟨?_, ?_, ?_, ?_, ?_, ?_, ?_, ?_, hc⟩ <;> rw [e]
  · rfl
  · rw [ss_blk_f hx]; exact a2
  · exact a3
  · exact a4
  · intro i hi
    rw [ss_blk_O] at hi
    rw [ss_blk_K, ss_blk_C]
    by_cases c : i = ss_O (S p) + 1
    · rw [c, pk_us, pk_us, uv_se, uv_se]; exact ⟨rfl, rfl⟩
    · rw [pk_un c, pk_un c, uv_sn c, uv_sn c]; exact a5 i (by omega)
  · intro i hi hk
    rw [ss_blk_O] at hi
    rw [ss_blk_K] at hk
    rw [ss_blk_P]
    by_cases c : i = ss_O (S p) + 1
    · rw [c, pk_us, uv_se]; rfl
    · rw [uv_sn c] at hk
      rw [pk_un c, uv_sn c]
      by_cases c2 : i = ss_f (S p)
      · rw [c2, pk_us, uv_se]; rfl
      · rw [pk_un c2, uv_sn c2]; exact a6 i (by omega) hk
  · intro i h1 hi hk
    rw [ss_blk_O] at hi
    rw [ss_blk_K] at hk
    rw [ss_blk_W]
    by_cases c : i = ss_O (S p) + 1
    · rw [c, pk_us, uv_se]
    · rw [uv_sn c] at hk
      rw [pk_un c, uv_sn c]; exact a7 i h1 (by omega) hk
  · exact a8
theorem ss_els_f {s : ss_T} {p : Nat} (ho : 1 ≤ ss_O s) (hk : ss_K s (ss_O s) ≠ 5) : ss_f (ss_els s p) = ss_f s := by
  obtain ⟨o, ho'⟩ : ∃ o, ss_O s = o + 1 := ⟨ss_O s - 1, by omega⟩
  show ss_fx (uv_st (ss_K s) (ss_O s) 4) (ss_O s) = ss_fx (ss_K s) (ss_O s)
  have e1 : ss_fx (ss_K s) (ss_O s) = ss_fx (ss_K s) o := ss_fx_up (by omega) (fun c h1 h2 => by
    have : c = ss_O s := by omega
    rw [this]; exact hk)
  have e2 : ss_fx (uv_st (ss_K s) (ss_O s) 4) (ss_O s) = ss_fx (uv_st (ss_K s) (ss_O s) 4) o := ss_fx_up (by omega) (fun c h1 h2 => by
    have : c = ss_O s := by omega
    rw [this, uv_se]; decide)
  rw [e1, e2]
  exact ss_fx_cg (fun d hd => uv_sn (by omega))
theorem ya_els (hI : ss_I p (S p)) (ho : 1 ≤ ss_O (S p)) (hk2 : ss_K (S p) (ss_O (S p)) = 2) (h : ys_A k a S p op fn vr fu cK cW cV cO vN ct) (e : S (p + 1) = ss_els (S p) p) (hc : ys_ct k a S (p + 1) ct') :
    ys_A k a S (p + 1) op fn (nI (ss_C (S p) (ss_O (S p)))) fu (upd cK (ss_O (S p)) 4) cW cV cO vN ct' := by
  obtain ⟨a1, a2, a3, a4, a5, a6, a7, a8, a9⟩ := h
  have hk5 : ss_K (S p) (ss_O (S p)) ≠ 5 := by rw [hk2]; decide
  unfold ys_A
  refine ⟨?_, ?_, ?_, ?_, ?_, ?_, ?_, ?_, hc⟩ <;> rw [e]
  · exact a1
  · rw [ss_els_f ho hk5]; exact a2
  · rfl
  · exact a4
  · intro i hi
    rw [ss_els_K]
    by_cases c : i = ss_O (S p)
    · rw [c, pk_us, uv_se]; exact ⟨rfl, (a5 _ (Nat.le_refl _)).2⟩
    · rw [pk_un c, uv_sn c]; exact a5 i hi
  · intro i hi hk
    rw [ss_els_K] at hk
    by_cases c : i = ss_O (S p)
    · rw [c, uv_se] at hk
      rcases hk with z | z
      · omega
      · exact absurd z (by decide)
    · rw [uv_sn c] at hk; exact a6 i hi hk
  · intro i h1 hi hk
    rw [ss_els_K] at hk
    rw [ss_els_W]
    by_cases c : i = ss_O (S p)
    · rw [c, uv_se] at hk; exact absurd hk (by decide)
    · rw [uv_sn c] at hk
      rw [uv_sn c]; exact a7 i h1 hi hk
  · intro j hj
    rw [ss_els_V] at hj
    have := (hI.2.2.2.2.2.2.1 (ss_O (S p)) ho (Nat.le_refl _)).2.1
    exact a8 j (by omega)
theorem ya_enb (hI : ss_I p (S p)) (ho : 1 ≤ ss_O (S p)) (hk5 : ss_K (S p) (ss_O (S p)) ≠ 5) (h : ys_A k a S p op fn vr fu cK cW cV cO vN ct) (e : S (p + 1) = ss_enb (S p)) (hc : ys_ct k a S (p + 1) ct') :
    ys_A k a S (p + 1) (nI (ss_O (S p) - 1)) (nI (ss_fx (ss_K (S p)) (ss_O (S p) - 1))) (nI (ss_C (S p) (ss_O (S p)))) fu cK cW cV cO vN ct' := by
  obtain ⟨a1, a2, a3, a4, a5, a6, a7, a8, a9⟩ := h
  unfold ys_A
  refine ⟨?_, ?_, ?_, ?_, ?_, ?_, ?_, ?_, hc⟩ <;> rw [e]
  · rfl
  · rfl
  · rfl
  · exact a4
  · intro i hi
    rw [ss_enb_O] at hi
    exact a5 i (by omega)
  · intro i hi hk
    rw [ss_enb_O] at hi
    exact a6 i (by omega) hk
  · intro i h1 hi hk
    rw [ss_enb_O] at hi
    exact a7 i h1 (by omega) hk
  · intro j hj
    rw [ss_enb_V] at hj
    have := (hI.2.2.2.2.2.2.1 (ss_O (S p)) ho (Nat.le_refl _)).2.1
    exact a8 j (by omega)
theorem ya_enf (hI : ss_I p (S p)) (ho : 1 ≤ ss_O (S p)) (hk5 : ss_K (S p) (ss_O (S p)) = 5) (h : ys_A k a S p op fn vr fu cK cW cV cO vN ct) (e : S (p + 1) = ss_enf (S p)) (hc : ys_ct k a S (p + 1) ct') :
    ys_A k a S (p + 1) (nI (ss_O (S p) - 1)) (nI (ss_fx (ss_K (S p)) (ss_O (S p) - 1))) (nI (ss_C (S p) (ss_O (S p)))) fu cK cW cV (upd cO (ss_fx (ss_K (S p)) (ss_O (S p) - 1)) (nI (ss_P (S p) (ss_fx (ss_K (S p)) (ss_O (S p) - 1)) + 1))) vN ct' := by
  obtain ⟨a1, a2, a3, a4, a5, a6, a7, a8, a9⟩ := h
  unfold ys_A
  refine ⟨?_, ?_, ?_, ?_, ?_, ?_, ?_, ?_, hc⟩ <;> rw [e]
  · rfl
  · rfl
  · rfl
  · exact a4
  · intro i hi
    rw [ss_enf_O] at hi
    exact a5 i (by omega)
  · intro i hi hk
    rw [ss_enf_O] at hi
    rw [ss_enf_P]
    by_cases c : i = ss_fx (ss_K (S p)) (ss_O (S p) - 1)
    · rw [c, pk_us, uv_se]
    · rw [pk_un c, uv_sn c]; exact a6 i (by omega) hk
  · intro i h1 hi hk
    rw [ss_enf_O] at hi
    exact a7 i h1 (by omega) hk
  · intro j hj
    rw [ss_enf_V] at hj
    have := (hI.2.2.2.2.2.2.1 (ss_O (S p)) ho (Nat.le_refl _)).2.1
    exact a8 j (by omega)
end
section
variable {post : SY → Prop}
theorem yr_318 {G : Nat → Int32} {B : Nat → Nat → Int32} {K : Nat → Int32} {o : Nat} {x4 : Int32} (hO : (G 5) = nI o) (ho : o ≤ 10) (hK : ∀ i, i ≤ o → (B 2) i = K i)
    (h0 : x4 = 0 → post (uv_Y (uv_st G 6 (nI (ss_fx K o))) B)) (h1 : x4 ≠ 0 → post (uv_Y (uv_st G 6 (nI (ss_fx K o))) (uv_st B 5 (upd (B 5) (ss_fx K o) ((B 5) (ss_fx K o) + 1))))) :
    ∀ (d c fuel : Nat), c + d = o → d < fuel → wY_read_318 post x4 (G 0) (G 1) (G 2) (G 3) ((G 4)) ((G 5)) (G 7) (G 8) (G 9) (G 10) (G 11) (G 12) (G 13) (G 14) (G 15) (G 16) (G 17) (G 18) (B 0) (B 1) (B 2) (B 3) (B 4) (B 5) (B 6) (B 7) (B 8) (B 9) (B 10) (B 11) (B 12) (B 13) (B 14) (B 15) (B 16) (B 17) (B 18) (B 19) (B 20) (B 21) (B 22) (B 23) fuel (nI (c + 1)) (nI (ss_fx K c)) := by
  intro d
  induction d with
  | zero =>
    intro c fuel hc hf
    obtain ⟨m, rfl⟩ : ∃ m, fuel = m + 1 := ⟨fuel - 1, by omega⟩
    have e : c = o := by omega
    subst e
    have i1 : (G 5) < nI (c + 1) := by rw [hO]; exact nI_lt (by omega) (by omega)
    have hf := ss_fx_le K c
    have i2 : vp_in (nI (ss_fx K c)) 11 := vp_in_nI (by omega) (by omega)
    have i3 : (nI (ss_fx K c)).toNatClampNeg = ss_fx K c := nI_clamp (by omega)
    simp only [wY_read_318, i1, i2, i3, eq_self, true_implies, false_implies, forall_eq, true_and, and_true, not_true_eq_false, not_false_eq_true]
    exact ⟨h0, h1⟩
  | succ d ih =>
    intro c fuel hc hf
    obtain ⟨m, rfl⟩ : ∃ m, fuel = m + 1 := ⟨fuel - 1, by omega⟩
    have Q := ih (c + 1) m (by omega) (by omega)
    have i1 : ¬ (G 5) < nI (c + 1) := by rw [hO]; exact nI_nlt (by omega) (by omega)
    have i2 : vp_in (nI (c + 1)) 11 := vp_in_nI (by omega) (by omega)
    have i3 : (nI (c + 1)).toNatClampNeg = c + 1 := nI_clamp (by omega)
    have i4 : nI (c + 1) + 1 = nI (c + 1 + 1) := nI_1 (c + 1)
    have k1 := hK (c + 1) (by omega)
    by_cases h5 : K (c + 1) = 5
    · rw [ss_fx_s5 h5] at Q
      simp only [wY_read_318, i1, i2, i3, i4, k1, h5, eq_self, true_implies, false_implies, forall_eq, true_and, and_true, not_true_eq_false, not_false_eq_true]
      exact Q
    · rw [ss_fx_sn h5] at Q
      simp only [wY_read_318, i1, i2, i3, i4, k1, h5, eq_self, true_implies, false_implies, forall_eq, true_and, and_true, not_true_eq_false, not_false_eq_true]
      exact Q
end
end
section
/-! read, scan -/
section
variable {G : Nat → Int32} {B : Nat → Nat → Int32} {post : SY → Prop} {S : Nat → ss_T} {p : Nat}
theorem yw_capture {m0 : Nat} (hI : ss_I p (S p)) (hp : p ≤ 96) (hm0 : m0 < 8) (hl : ss_l (S p) (nI m0) ≠ 0)
    (a1 : (G 5) = nI (ss_O (S p))) (a3 : (G 7) = nI (ss_V (S p))) (a5 : ∀ i, i ≤ ss_O (S p) → (B 2) i = ss_K (S p) i ∧ (B 4) i = nI (ss_C (S p) i)) (a7 : ∀ i, 1 ≤ i → i ≤ ss_O (S p) → ss_K (S p) i = 5 → (B 3) i = nI (ss_W (S p) i)) (a8 : ∀ j, j < ss_V (S p) → (B 6) j = ss_N (S p) j)
    (h : ∀ ct', (∀ w m, w < 96 → m < 8 → ((m = m0 ∧ ∃ d, 0 < d ∧ d ≤ ss_O (S p) ∧ ss_K (S p) d = 5 ∧ ss_W (S p) d = w ∧ ss_l (S p) (nI m0) ≤ ss_C (S p) d) → ct' (w * 8 + m) = 1) ∧
      (¬ (m = m0 ∧ ∃ d, 0 < d ∧ d ≤ ss_O (S p) ∧ ss_K (S p) d = 5 ∧ ss_W (S p) d = w ∧ ss_l (S p) (nI m0) ≤ ss_C (S p) d) → ct' (w * 8 + m) = (B 7) (w * 8 + m))) → post (uv_Y G (uv_st B 7 (ct')))) :
    wpY_capture post (uv_Y G B) (nI m0) := by
  have mono : ∀ i, i ≤ ss_O (S p) → ss_K (S p) i = 5 → ss_C (S p) i < ss_l (S p) (nI m0) → ∀ j, 1 ≤ j → j ≤ i → ss_K (S p) j = 5 → ss_C (S p) j < ss_l (S p) (nI m0) := by
    intro i hi _ hc j j1 j2 _
    by_cases e : j = i
    · rw [e]; exact hc
    · have := (hI.2.2.2.2.2.2.2.1 j i j1 (by omega) hi).2.1
      omega
  have K := yw_cap_lp (G := G) (post := post) (l := ss_l (S p) (nI m0)) hI hp hm0 (B 7) mono (ss_O (S p)) (ss_O (S p) + 1) B (Nat.le_refl _) (by omega) (fun i hi => (a5 i hi).1) a7
    (fun w m hw hm => ⟨fun z => by obtain ⟨_, d, d1, d2, _⟩ := z; omega, fun _ => rfl⟩) h
  unfold wpY_capture uv_Y
  dsimp only
  refine yw_level (G := G) (B := B) hI a1 a3 a5 a8 (fun z => absurd z hl) (fun _ => ?_)
  rw [← a1] at K
  exact ⟨_, K⟩
theorem ys_read (hS0 : ss_R ((B 0) p) ((B 1) p) p (S p) (S (p + 1))) (hI : ss_I p (S p)) (hp : p < 96)
    (hA : ys_A (B 0) (B 1) S p (G 5) (G 6) (G 7) (G 8) (B 2) (B 3) (B 4) (B 5) (B 6) (B 7))
    (h : ∀ G' B', ys_fr G B G' B' → ys_A (B 0) (B 1) S (p + 1) (G' 5) (G' 6) (G' 7) (G' 8) (B' 2) (B' 3) (B' 4) (B' 5) (B' 6) (B' 7) → post (uv_Y G' B')) :
    wpY_read post (uv_Y G B) (nI p) := by
  have hA0 := hA
  obtain ⟨a1, a2, a3, a4, a5, a6, a7, a8, a9⟩ := hA
  have hO := hI.1
  have hf := ss_f_le (S p)
  have hV := ss_V88 hI
  have hF := hI.2.1
  have i0 : vp_in (nI p) 96 := vp_in_nI hp (by omega)
  have i1 : (nI p).toNatClampNeg = p := nI_clamp (by omega)
  have i2 : vp_in ((G 6)) 11 := by rw [a2]; exact vp_in_nI (by omega) (by omega)
  have i3 : ((G 6)).toNatClampNeg = ss_f (S p) := by rw [a2]; exact nI_clamp (by omega)
  have i4 : vp_in ((G 5)) 11 := by rw [a1]; exact vp_in_nI (by omega) (by omega)
  have i5 : ((G 5)).toNatClampNeg = ss_O (S p) := by rw [a1]; exact nI_clamp (by omega)
  have i6 : vp_in ((G 7)) 97 := by rw [a3]; exact vp_in_nI (by omega) (by omega)
  have i7 : ((G 7)).toNatClampNeg = ss_V (S p) := by rw [a3]; exact nI_clamp (by omega)
  have i8 : (G 7) + 1 = nI (ss_V (S p) + 1) := by rw [a3]; exact nI_1 _
  have i9 : (G 8) + 1 = nI (ss_F (S p) + 1) := by rw [a4]; exact nI_1 _
  have i10 : (G 5) + 1 = nI (ss_O (S p) + 1) := by rw [a1]; exact nI_1 _
  have q0 : (B 5) (ss_f (S p)) = nI (ss_Q (S p)) := a6 _ hf (xc_f5 (S p))
  have q1 : nI (ss_Q (S p)) + 1 = nI (ss_Q (S p) + 1) := nI_1 _
  have cK : ∀ i, i ≤ ss_O (S p) → (B 2) i = ss_K (S p) i := fun i hi => (a5 i hi).1
  -- the end of a word that leaves the constructs alone
  have smp : ∀ (q : Nat) (ct' : Nat → Int32), S (p + 1) = ss_smp (S p) q → ys_ct (B 0) (B 1) S (p + 1) ct' →
      ∃ n318, wY_read_318 post 0 (G 0) (G 1) (G 2) (G 3) ((G 4)) ((G 5)) (G 7) (G 8) (G 9) (G 10) (G 11) (G 12) (G 13) (G 14) (G 15) (G 16) (G 17) (G 18) (B 0) (B 1) (B 2) (B 3) (B 4) (upd (B 5) (ss_f (S p)) (nI q)) (B 6) ct' (B 8) (B 9) (B 10) (B 11) (B 12) (B 13) (B 14) (B 15) (B 16) (B 17) (B 18) (B 19) (B 20) (B 21) (B 22) (B 23) n318 1 0 := by
    intro q ct' e hc
    have hp0 : post (uv_Y (uv_st G 6 (nI (ss_fx (ss_K (S p)) (ss_O (S p))))) (uv_st (uv_st B 5 (upd (B 5) (ss_f (S p)) (nI q))) 7 (ct'))) := by
      refine h _ _ ⟨fun i hi => ?_, fun i hi => ?_⟩ ?_
      · exact uv_sn (by omega)
      · exact (uv_sn (by omega)).trans (uv_sn (by omega))
      · have := ya_smp hA0 e hc
        exact ⟨this.1, uv_se.trans (by rw [e]; rfl), this.2.2⟩
    exact ⟨ss_O (S p) + 1, yr_318 (G := G) (B := (uv_st (uv_st B 5 (upd (B 5) (ss_f (S p)) (nI q))) 7 (ct'))) (K := ss_K (S p)) (o := ss_O (S p)) a1 hO cK (fun _ => hp0) (fun z => absurd rfl z) (ss_O (S p)) 0 _ (by omega) (by omega)⟩
  -- a name taken
  have ctc : ∀ (m0 : Nat) (ct' : Nat → Int32), m0 < 8 → ((B 0) p = 1 ∨ (B 0) p = 6) → (B 1) p = nI m0 →
      (∀ w m, w < 96 → m < 8 → ((m = m0 ∧ ∃ d, 0 < d ∧ d ≤ ss_O (S p) ∧ ss_K (S p) d = 5 ∧ ss_W (S p) d = w ∧ ss_l (S p) (nI m0) ≤ ss_C (S p) d) → ct' (w * 8 + m) = 1) ∧
      (¬ (m = m0 ∧ ∃ d, 0 < d ∧ d ≤ ss_O (S p) ∧ ss_K (S p) d = 5 ∧ ss_W (S p) d = w ∧ ss_l (S p) (nI m0) ≤ ss_C (S p) d) → ct' (w * 8 + m) = (B 7) (w * 8 + m))) → ys_ct (B 0) (B 1) S (p + 1) ct' := by
    intro m0 ct' hm0 hk ha hct w m hw hm
    have e : ss_cap ((B 0)) ((B 1)) S (p + 1) w (nI m) ↔ ss_cap ((B 0)) ((B 1)) S p w (nI m) ∨ (m = m0 ∧ ∃ d, 0 < d ∧ d ≤ ss_O (S p) ∧ ss_K (S p) d = 5 ∧ ss_W (S p) d = w ∧ ss_l (S p) (nI m0) ≤ ss_C (S p) d) := by
      rw [ss_cap_s]
      constructor
      · rintro (z | ⟨_, z2, d, d1, d2⟩)
        · exact Or.inl z
        · have : m0 = m := (nI_eq (by omega) (by omega)).mp (ha.symm.trans z2)
          subst this
          exact Or.inr ⟨rfl, d, d1, d2⟩
      · rintro (z | ⟨rfl, d, d1, d2⟩)
        · exact Or.inl z
        · exact Or.inr ⟨hk, ha, d, d1, d2⟩
    rw [e]
    obtain ⟨r1, r2⟩ := hct w m hw hm
    by_cases z : (m = m0 ∧ ∃ d, 0 < d ∧ d ≤ ss_O (S p) ∧ ss_K (S p) d = 5 ∧ ss_W (S p) d = w ∧ ss_l (S p) (nI m0) ≤ ss_C (S p) d)
    · exact ⟨fun _ => r1 z, fun y => absurd (Or.inr z) y⟩
    · rw [r2 z]
      refine ⟨fun y => ?_, fun y => (a9 w m hw hm).2 (fun y' => y (Or.inl y'))⟩
      rcases y with y | y
      · exact (a9 w m hw hm).1 y
      · exact absurd y z
  rcases hS0 with ⟨kk, _, e⟩ | ⟨kk, ⟨m0, hm0, ha⟩, hl, _, e⟩ | ⟨kk, _, hq, e⟩ | ⟨kk, hq, e⟩ | ⟨kk, _, _, ho, _, e⟩ | ⟨kk, _, _, _, e⟩ | ⟨kk, ⟨m0, hm0, ha⟩, _, hl, e⟩ | ⟨kk, _, _, _, e⟩ | ⟨kk, ha, _, ho, e⟩ | ⟨kk, _, ho, hk, _, e⟩ | ⟨kk, ho, _, ⟨hk, e⟩ | ⟨hk, e⟩⟩
  · have := smp _ _ e (ya_ct hA0 (by rw [kk]; decide) (by rw [kk]; decide))
    unfold wpY_read uv_Y
    refine ⟨i0, nm_r (e' := 0) (by rw [i1, kk]) ⟨i0, nm_r (e' := (B 1) p) (by rw [i1]) <| br_f uv_n_0_10 ?_⟩⟩
    refine br_t rfl ⟨i2, i2, nm_r (e' := upd (B 5) (ss_f (S p)) (nI (ss_Q (S p) + 1))) (by rw [i3, q0, q1]) ?_⟩
    exact br_f uv_n_0_2 <| br_f uv_n_0_3 <| br_f uv_n_0_5 <| br_f uv_n_0_6 <| br_f uv_n_0_7 <| br_f uv_n_0_8 <| br_f uv_n_0_1 <| br_f uv_n_0_6 <| br_f uv_n_0_4 <| br_f uv_n_0_8 <| br_f uv_n_0_4 <| br_f uv_n_0_4 <| br_f uv_n_0_5 <| br_f uv_n_0_9 <| br_f uv_n_0_10 <| this
  · unfold wpY_read uv_Y
    rw [ha] at hl
    refine ⟨i0, nm_r (e' := 1) (by rw [i1, kk]) ⟨i0, nm_r (e' := nI m0) (by rw [i1, ha]) <| br_f uv_n_1_10 ?_⟩⟩
    refine br_f uv_n_1_0 <| br_t rfl ⟨i2, i2, nm_r (e' := upd (B 5) (ss_f (S p)) (nI (ss_Q (S p) + 1))) (by rw [i3, q0, q1]) ?_⟩
    refine br_f uv_n_1_2 <| br_f uv_n_1_3 <| br_f uv_n_1_5 <| br_f uv_n_1_6 <| br_f uv_n_1_7 <| br_f uv_n_1_8 <| br_t rfl ?_
    refine yw_capture (G := G) (B := (uv_st B 5 (upd (B 5) (ss_f (S p)) (nI (ss_Q (S p) + 1))))) hI (by omega) hm0 hl a1 a3 a5 a7 a8 (fun ct' hct => ?_)
    have := smp _ ct' e (ctc m0 ct' hm0 (Or.inl kk) ha hct)
    exact br_f uv_n_1_4 <| br_f uv_n_1_8 <| br_f uv_n_1_4 <| br_f uv_n_1_4 <| br_f uv_n_1_5 <| br_f uv_n_1_9 <| br_f uv_n_1_10 <| this
  · have := smp _ _ e (ya_ct hA0 (by rw [kk]; decide) (by rw [kk]; decide))
    have q2 : nI (ss_Q (S p)) - 1 = nI (ss_Q (S p) - 1) := pk_sub (b := 1) (by omega)
    unfold wpY_read uv_Y
    refine ⟨i0, nm_r (e' := 2) (by rw [i1, kk]) ⟨i0, nm_r (e' := (B 1) p) (by rw [i1]) <| br_f uv_n_2_10 ?_⟩⟩
    refine br_f uv_n_2_0 <| br_f uv_n_2_1 <| br_t rfl ⟨i2, i2, nm_r (e' := upd (B 5) (ss_f (S p)) (nI (ss_Q (S p) - 1))) (by rw [i3, q0, q2]) ?_⟩
    exact br_f uv_n_2_5 <| br_f uv_n_2_6 <| br_f uv_n_2_7 <| br_f uv_n_2_8 <| br_f uv_n_2_1 <| br_f uv_n_2_6 <| br_f uv_n_2_4 <| br_f uv_n_2_8 <| br_f uv_n_2_4 <| br_f uv_n_2_4 <| br_f uv_n_2_5 <| br_f uv_n_2_9 <| br_f uv_n_2_10 <| this
  · have := smp _ _ e (ya_ct hA0 (by rw [kk]; decide) (by rw [kk]; decide))
    have q2 : nI (ss_Q (S p)) - 1 = nI (ss_Q (S p) - 1) := pk_sub (b := 1) (by omega)
    unfold wpY_read uv_Y
    refine ⟨i0, nm_r (e' := 3) (by rw [i1, kk]) ⟨i0, nm_r (e' := (B 1) p) (by rw [i1]) <| br_f uv_n_3_10 ?_⟩⟩
    refine br_f uv_n_3_0 <| br_f uv_n_3_1 <| br_f uv_n_3_2 <| br_t rfl ⟨i2, i2, nm_r (e' := upd (B 5) (ss_f (S p)) (nI (ss_Q (S p) - 1))) (by rw [i3, q0, q2]) ?_⟩
    exact br_f uv_n_3_5 <| br_f uv_n_3_6 <| br_f uv_n_3_7 <| br_f uv_n_3_8 <| br_f uv_n_3_1 <| br_f uv_n_3_6 <| br_f uv_n_3_4 <| br_f uv_n_3_8 <| br_f uv_n_3_4 <| br_f uv_n_3_4 <| br_f uv_n_3_5 <| br_f uv_n_3_9 <| br_f uv_n_3_10 <| this
  · have j1 : vp_in (nI (ss_O (S p) + 1)) 11 := vp_in_nI (by omega) (by omega)
    have j2 : (nI (ss_O (S p) + 1)).toNatClampNeg = ss_O (S p) + 1 := nI_clamp (by omega)
    have A' := ya_fun hA0 e (ya_ct hA0 (by rw [kk]; decide) (by rw [kk]; decide))
    rw [← a3] at A'
    have f5 : ss_fx (upd ((B 2)) (ss_O (S p) + 1) 5) (ss_O (S p) + 1) = ss_O (S p) + 1 := ss_fx_s5 pk_us
    have hp0 : post (uv_Y (uv_st (uv_st (uv_st (uv_st G 5 (nI (ss_O (S p) + 1))) 7 (nI (ss_V (S p) + 1))) 8 (nI (ss_F (S p) + 1))) 6 (nI (ss_fx (upd (B 2) (ss_O (S p) + 1) 5) (ss_O (S p) + 1))))
        (uv_st (uv_st (uv_st (uv_st (uv_st B 2 (upd (B 2) (ss_O (S p) + 1) 5)) 3 (upd (B 3) (ss_O (S p) + 1) (nI p))) 4 (upd (B 4) (ss_O (S p) + 1) ((G 7)))) 5 (upd (B 5) (ss_O (S p) + 1) 0)) 6 (upd (B 6) (ss_V (S p)) ((B 1) p)))) := by
      refine h _ _ ⟨fun i hi => ?_, fun i hi => ?_⟩ ?_
      · exact (uv_sn (by omega)).trans ((uv_sn (by omega)).trans ((uv_sn (by omega)).trans (uv_sn (by omega))))
      · exact (uv_sn (by omega)).trans ((uv_sn (by omega)).trans ((uv_sn (by omega)).trans ((uv_sn (by omega)).trans (uv_sn (by omega)))))
      · rw [f5]; exact A'
    have K := yr_318 (G := (uv_st (uv_st (uv_st G 5 (nI (ss_O (S p) + 1))) 7 (nI (ss_V (S p) + 1))) 8 (nI (ss_F (S p) + 1))))
      (B := (uv_st (uv_st (uv_st (uv_st (uv_st B 2 (upd (B 2) (ss_O (S p) + 1) 5)) 3 (upd (B 3) (ss_O (S p) + 1) (nI p))) 4 (upd (B 4) (ss_O (S p) + 1) ((G 7)))) 5 (upd (B 5) (ss_O (S p) + 1) 0)) 6 (upd (B 6) (ss_V (S p)) ((B 1) p))))
      (K := upd (B 2) (ss_O (S p) + 1) 5) (o := ss_O (S p) + 1) rfl (by omega) (fun _ _ => rfl) (fun _ => hp0) (fun z => absurd rfl z) (ss_O (S p) + 1) 0 (ss_O (S p) + 2) (by omega) (by omega)
    unfold wpY_read uv_Y
    refine ⟨i0, nm_r (e' := 4) (by rw [i1, kk]) ⟨i0, nm_r (e' := (B 1) p) (by rw [i1]) <| br_f uv_n_4_10 ?_⟩⟩
    refine br_f uv_n_4_0 <| br_f uv_n_4_1 <| br_f uv_n_4_2 <| br_f uv_n_4_3 <| br_f uv_n_4_5 <| br_f uv_n_4_6 <| br_f uv_n_4_7 <| br_f uv_n_4_8 <| br_f uv_n_4_1 <| br_f uv_n_4_6 <| br_t rfl <| nm_r i10 <| br_t rfl ?_
    refine ⟨j1, nm_r (e' := upd (B 2) (ss_O (S p) + 1) 5) (by rw [j2]) ⟨j1, nm_r (e' := upd (B 3) (ss_O (S p) + 1) (nI p)) (by rw [j2]) ⟨j1, nm_r (e' := upd (B 4) (ss_O (S p) + 1) ((G 7))) (by rw [j2]) ⟨j1, nm_r (e' := upd (B 5) (ss_O (S p) + 1) 0) (by rw [j2]) ?_⟩⟩⟩⟩
    refine br_t rfl <| nm_r i9 <| br_t rfl ⟨i6, nm_r (e' := upd (B 6) (ss_V (S p)) ((B 1) p)) (by rw [i7]) <| nm_r i8 <| br_f uv_n_4_9 <| br_f uv_n_4_10 <| ⟨_, K⟩⟩
  · have A' := ya_dcl hA0 e (ya_ct hA0 (by rw [kk]; decide) (by rw [kk]; decide))
    have hp0 : post (uv_Y (uv_st (uv_st G 7 (nI (ss_V (S p) + 1))) 6 (nI (ss_fx (ss_K (S p)) (ss_O (S p)))))
        (uv_st (uv_st B 5 (upd (B 5) (ss_f (S p)) 0)) 6 (upd (B 6) (ss_V (S p)) ((B 1) p)))) := by
      refine h _ _ ⟨fun i hi => ?_, fun i hi => ?_⟩ ?_
      · exact (uv_sn (by omega)).trans (uv_sn (by omega))
      · exact (uv_sn (by omega)).trans (uv_sn (by omega))
      · exact ⟨A'.1, uv_se.trans (by rw [e]; rfl), A'.2.2⟩
    have K := yr_318 (G := (uv_st G 7 (nI (ss_V (S p) + 1)))) (B := (uv_st (uv_st B 5 (upd (B 5) (ss_f (S p)) 0)) 6 (upd (B 6) (ss_V (S p)) ((B 1) p))))
      (K := ss_K (S p)) (o := ss_O (S p)) a1 hO cK (fun _ => hp0) (fun z => absurd rfl z) (ss_O (S p)) 0 (ss_O (S p) + 1) (by omega) (by omega)
    unfold wpY_read uv_Y
    refine ⟨i0, nm_r (e' := 5) (by rw [i1, kk]) ⟨i0, nm_r (e' := (B 1) p) (by rw [i1]) <| br_f uv_n_5_10 ?_⟩⟩
    refine br_f uv_n_5_0 <| br_f uv_n_5_1 <| br_f uv_n_5_2 <| br_f uv_n_5_3 <| br_t rfl ⟨i2, nm_r (e' := upd (B 5) (ss_f (S p)) 0) (by rw [i3]) ?_⟩
    refine br_f uv_n_5_1 <| br_f uv_n_5_6 <| br_f uv_n_5_4 <| br_f uv_n_5_8 <| br_f uv_n_5_4 <| br_f uv_n_5_4 <| br_t rfl ⟨i6, nm_r (e' := upd (B 6) (ss_V (S p)) ((B 1) p)) (by rw [i7]) <| nm_r i8 <| br_f uv_n_5_9 <| br_f uv_n_5_10 <| ⟨_, K⟩⟩
  · unfold wpY_read uv_Y
    rw [ha] at hl
    refine ⟨i0, nm_r (e' := 6) (by rw [i1, kk]) ⟨i0, nm_r (e' := nI m0) (by rw [i1, ha]) <| br_f uv_n_6_10 ?_⟩⟩
    refine br_f uv_n_6_0 <| br_f uv_n_6_1 <| br_f uv_n_6_2 <| br_f uv_n_6_3 <| br_f uv_n_6_5 <| br_t rfl ⟨i2, nm_r (e' := upd (B 5) (ss_f (S p)) (nI 0)) (by rw [i3]; rfl) ?_⟩
    refine br_f uv_n_6_1 <| br_t rfl ?_
    refine yw_capture (G := G) (B := (uv_st B 5 (upd (B 5) (ss_f (S p)) (nI 0)))) hI (by omega) hm0 hl a1 a3 a5 a7 a8 (fun ct' hct => ?_)
    have := smp 0 ct' e (ctc m0 ct' hm0 (Or.inr kk) ha hct)
    exact br_f uv_n_6_4 <| br_f uv_n_6_8 <| br_f uv_n_6_4 <| br_f uv_n_6_4 <| br_f uv_n_6_5 <| br_f uv_n_6_9 <| br_f uv_n_6_10 <| this
  · have := smp 0 _ e (ya_ct hA0 (by rw [kk]; decide) (by rw [kk]; decide))
    unfold wpY_read uv_Y
    refine ⟨i0, nm_r (e' := 7) (by rw [i1, kk]) ⟨i0, nm_r (e' := (B 1) p) (by rw [i1]) <| br_f uv_n_7_10 ?_⟩⟩
    refine br_f uv_n_7_0 <| br_f uv_n_7_1 <| br_f uv_n_7_2 <| br_f uv_n_7_3 <| br_f uv_n_7_5 <| br_f uv_n_7_6 <| br_t rfl ⟨i2, nm_r (e' := upd (B 5) (ss_f (S p)) (nI 0)) (by rw [i3]; rfl) ?_⟩
    exact br_f uv_n_7_1 <| br_f uv_n_7_6 <| br_f uv_n_7_4 <| br_f uv_n_7_8 <| br_f uv_n_7_4 <| br_f uv_n_7_4 <| br_f uv_n_7_5 <| br_f uv_n_7_9 <| br_f uv_n_7_10 <| this
  · have ha5 : (B 1) p ≠ 5 := by rcases ha with z | z | z <;> rw [z] <;> decide
    have j1 : vp_in (nI (ss_O (S p) + 1)) 11 := vp_in_nI (by omega) (by omega)
    have j2 : (nI (ss_O (S p) + 1)).toNatClampNeg = ss_O (S p) + 1 := nI_clamp (by omega)
    have A' := ya_blk ha5 hA0 e (ya_ct hA0 (by rw [kk]; decide) (by rw [kk]; decide))
    rw [← a3] at A'
    have f5 : ss_fx (upd ((B 2)) (ss_O (S p) + 1) ((B 1) p)) (ss_O (S p) + 1) = ss_f (S p) := by
      rw [ss_fx_sn (by rw [pk_us]; exact ha5)]
      exact ss_fx_cg (fun d hd => by rw [pk_un (by omega)]; exact cK d hd)
    have hp0 : post (uv_Y (uv_st (uv_st G 5 (nI (ss_O (S p) + 1))) 6 (nI (ss_fx (upd (B 2) (ss_O (S p) + 1) ((B 1) p)) (ss_O (S p) + 1))))
        (uv_st (uv_st (uv_st (uv_st B 2 (upd (B 2) (ss_O (S p) + 1) ((B 1) p))) 3 (upd (B 3) (ss_O (S p) + 1) (nI p))) 4 (upd (B 4) (ss_O (S p) + 1) ((G 7)))) 5 (upd (upd (B 5) (ss_f (S p)) 0) (ss_O (S p) + 1) 0))) := by
      refine h _ _ ⟨fun i hi => ?_, fun i hi => ?_⟩ ?_
      · exact (uv_sn (by omega)).trans (uv_sn (by omega))
      · exact (uv_sn (by omega)).trans ((uv_sn (by omega)).trans ((uv_sn (by omega)).trans (uv_sn (by omega))))
      · rw [f5]
        exact ⟨A'.1, uv_se.trans (by rw [e, ss_blk_f ha5]), A'.2.2⟩
    have K := yr_318 (G := (uv_st G 5 (nI (ss_O (S p) + 1))))
      (B := (uv_st (uv_st (uv_st (uv_st B 2 (upd (B 2) (ss_O (S p) + 1) ((B 1) p))) 3 (upd (B 3) (ss_O (S p) + 1) (nI p))) 4 (upd (B 4) (ss_O (S p) + 1) ((G 7)))) 5 (upd (upd (B 5) (ss_f (S p)) 0) (ss_O (S p) + 1) 0)))
      (K := upd (B 2) (ss_O (S p) + 1) ((B 1) p)) (o := ss_O (S p) + 1) rfl (by omega) (fun _ _ => rfl) (fun _ => hp0) (fun z => absurd rfl z) (ss_O (S p) + 1) 0 (ss_O (S p) + 2) (by omega) (by omega)
    unfold wpY_read uv_Y
    refine ⟨i0, nm_r (e' := 8) (by rw [i1, kk]) ⟨i0, nm_r (e' := (B 1) p) (by rw [i1]) <| br_f uv_n_8_10 ?_⟩⟩
    refine br_f uv_n_8_0 <| br_f uv_n_8_1 <| br_f uv_n_8_2 <| br_f uv_n_8_3 <| br_f uv_n_8_5 <| br_f uv_n_8_6 <| br_f uv_n_8_7 <| br_t rfl ⟨i2, nm_r (e' := upd (B 5) (ss_f (S p)) 0) (by rw [i3]) ?_⟩
    refine br_f uv_n_8_1 <| br_f uv_n_8_6 <| br_f uv_n_8_4 <| br_t rfl <| nm_r i10 <| br_f uv_n_8_4 ?_
    refine ⟨j1, nm_r (e' := upd (B 2) (ss_O (S p) + 1) ((B 1) p)) (by rw [j2]) ⟨j1, nm_r (e' := upd (B 3) (ss_O (S p) + 1) (nI p)) (by rw [j2]) ⟨j1, nm_r (e' := upd (B 4) (ss_O (S p) + 1) ((G 7))) (by rw [j2]) ⟨j1, nm_r (e' := upd (upd (B 5) (ss_f (S p)) 0) (ss_O (S p) + 1) 0) (by rw [j2]) ?_⟩⟩⟩⟩
    exact br_f uv_n_8_4 <| br_f uv_n_8_4 <| br_f uv_n_8_5 <| br_f uv_n_8_9 <| br_f uv_n_8_10 <| ⟨_, K⟩
  · have hk5 : ss_K (S p) (ss_O (S p)) ≠ 5 := by rw [hk]; decide
    have A' := ya_els hI ho hk hA0 e (ya_ct hA0 (by rw [kk]; decide) (by rw [kk]; decide))
    have c1 : (B 4) (ss_O (S p)) = nI (ss_C (S p) (ss_O (S p))) := (a5 _ (Nat.le_refl _)).2
    have f5 : ss_fx (upd ((B 2)) (ss_O (S p)) 4) (ss_O (S p)) = ss_f (S p) := by
      rw [← ss_els_f (s := S p) (p := p) ho hk5]
      exact ss_fx_cg (fun d hd => by
        rw [ss_els_K]
        by_cases c : d = ss_O (S p)
        · rw [c, pk_us, uv_se]
        · rw [pk_un c, uv_sn c]; exact cK d hd)
    have hp0 : post (uv_Y (uv_st (uv_st G 7 (nI (ss_C (S p) (ss_O (S p))))) 6 (nI (ss_fx (upd (B 2) (ss_O (S p)) 4) (ss_O (S p))))) (uv_st B 2 (upd (B 2) (ss_O (S p)) 4))) := by
      refine h _ _ ⟨fun i hi => ?_, fun i hi => ?_⟩ ?_
      · exact (uv_sn (by omega)).trans (uv_sn (by omega))
      · exact uv_sn (by omega)
      · rw [f5, ← a2]; exact A'
    have K := yr_318 (G := (uv_st G 7 (nI (ss_C (S p) (ss_O (S p)))))) (B := (uv_st B 2 (upd (B 2) (ss_O (S p)) 4)))
      (K := upd (B 2) (ss_O (S p)) 4) (o := ss_O (S p)) a1 hO (fun _ _ => rfl) (fun _ => hp0) (fun z => absurd rfl z) (ss_O (S p)) 0 (ss_O (S p) + 1) (by omega) (by omega)
    unfold wpY_read uv_Y
    refine ⟨i0, nm_r (e' := 9) (by rw [i1, kk]) ⟨i0, nm_r (e' := (B 1) p) (by rw [i1]) <| br_f uv_n_9_10 ?_⟩⟩
    refine br_f uv_n_9_0 <| br_f uv_n_9_1 <| br_f uv_n_9_2 <| br_f uv_n_9_3 <| br_f uv_n_9_5 <| br_f uv_n_9_6 <| br_f uv_n_9_7 <| br_f uv_n_9_8 <| br_f uv_n_9_1 <| br_f uv_n_9_6 <| br_f uv_n_9_4 <| br_f uv_n_9_8 <| br_f uv_n_9_4 <| br_f uv_n_9_4 <| br_f uv_n_9_5 <| br_t rfl ⟨i4, nm_r (e' := nI (ss_C (S p) (ss_O (S p)))) (by rw [i5, c1]) ⟨i4, nm_r (e' := upd (B 2) (ss_O (S p)) 4) (by rw [i5]) <| br_f uv_n_9_10 <| ⟨_, K⟩⟩⟩
  · have A' := ya_enf hI ho hk hA0 e (ya_ct hA0 (by rw [kk]; decide) (by rw [kk]; decide))
    have c1 : (B 4) (ss_O (S p)) = nI (ss_C (S p) (ss_O (S p))) := (a5 _ (Nat.le_refl _)).2
    have c2 : (B 2) (ss_O (S p)) = 5 := (cK _ (Nat.le_refl _)).trans hk
    have c3 : (G 5) - 1 = nI (ss_O (S p) - 1) := by rw [a1]; exact pk_sub (b := 1) ho
    have hfl := ss_fx_le (ss_K (S p)) (ss_O (S p) - 1)
    have hfk : ss_fx (ss_K (S p)) (ss_O (S p) - 1) = 0 ∨ ss_K (S p) (ss_fx (ss_K (S p)) (ss_O (S p) - 1)) = 5 := by
      rcases ss_fx_k (ss_K (S p)) (ss_O (S p) - 1) with z | z
      · exact Or.inl z
      · exact Or.inr z.2
    have c4 : (B 5) (ss_fx (ss_K (S p)) (ss_O (S p) - 1)) + 1 = nI (ss_P (S p) (ss_fx (ss_K (S p)) (ss_O (S p) - 1)) + 1) := by
      rw [a6 _ (by omega) hfk]; exact nI_1 _
    have hp0 : post (uv_Y (uv_st (uv_st (uv_st G 5 (nI (ss_O (S p) - 1))) 7 (nI (ss_C (S p) (ss_O (S p))))) 6 (nI (ss_fx (ss_K (S p)) (ss_O (S p) - 1)))) (uv_st B 5 (upd (B 5) (ss_fx (ss_K (S p)) (ss_O (S p) - 1)) ((B 5) (ss_fx (ss_K (S p)) (ss_O (S p) - 1)) + 1)))) := by
      refine h _ _ ⟨fun i hi => ?_, fun i hi => ?_⟩ ?_
      · exact (uv_sn (by omega)).trans ((uv_sn (by omega)).trans (uv_sn (by omega)))
      · exact uv_sn (by omega)
      · rw [c4]; exact A'
    have K := yr_318 (x4 := 1) (G := (uv_st (uv_st G 5 (nI (ss_O (S p) - 1))) 7 (nI (ss_C (S p) (ss_O (S p)))))) (B := B)
      (K := ss_K (S p)) (o := ss_O (S p) - 1) rfl (by omega) (fun i hi => cK i (by omega)) (fun z => absurd z (by decide)) (fun _ => hp0) (ss_O (S p) - 1) 0 (ss_O (S p) + 1) (by omega) (by omega)
    unfold wpY_read uv_Y
    refine ⟨i0, nm_r (e' := 10) (by rw [i1, kk]) ⟨i0, nm_r (e' := (B 1) p) (by rw [i1]) <| br_t rfl ⟨i4, br_t (by rw [i5]; exact c2) ?_⟩⟩⟩
    exact br_f uv_n_10_0 <| br_f uv_n_10_1 <| br_f uv_n_10_2 <| br_f uv_n_10_3 <| br_f uv_n_10_5 <| br_f uv_n_10_6 <| br_f uv_n_10_7 <| br_f uv_n_10_8 <| br_f uv_n_10_1 <| br_f uv_n_10_6 <| br_f uv_n_10_4 <| br_f uv_n_10_8 <| br_f uv_n_10_4 <| br_f uv_n_10_4 <| br_f uv_n_10_5 <| br_f uv_n_10_9 <| br_t rfl ⟨i4, nm_r (e' := nI (ss_C (S p) (ss_O (S p)))) (by rw [i5, c1]) <| nm_r c3 ⟨_, K⟩⟩
  · have A' := ya_enb hI ho hk hA0 e (ya_ct hA0 (by rw [kk]; decide) (by rw [kk]; decide))
    have c1 : (B 4) (ss_O (S p)) = nI (ss_C (S p) (ss_O (S p))) := (a5 _ (Nat.le_refl _)).2
    have c2 : ¬ (B 2) (ss_O (S p)) = 5 := by rw [cK _ (Nat.le_refl _)]; exact hk
    have c3 : (G 5) - 1 = nI (ss_O (S p) - 1) := by rw [a1]; exact pk_sub (b := 1) ho
    have hp0 : post (uv_Y (uv_st (uv_st (uv_st G 5 (nI (ss_O (S p) - 1))) 7 (nI (ss_C (S p) (ss_O (S p))))) 6 (nI (ss_fx (ss_K (S p)) (ss_O (S p) - 1)))) B) := by
      refine h _ _ ⟨fun i hi => ?_, fun i hi => rfl⟩ ?_
      · exact (uv_sn (by omega)).trans ((uv_sn (by omega)).trans (uv_sn (by omega)))
      · exact A'
    have K := yr_318 (x4 := 0) (G := (uv_st (uv_st G 5 (nI (ss_O (S p) - 1))) 7 (nI (ss_C (S p) (ss_O (S p)))))) (B := B)
      (K := ss_K (S p)) (o := ss_O (S p) - 1) rfl (by omega) (fun i hi => cK i (by omega)) (fun _ => hp0) (fun z => absurd rfl z) (ss_O (S p) - 1) 0 (ss_O (S p) + 1) (by omega) (by omega)
    unfold wpY_read uv_Y
    refine ⟨i0, nm_r (e' := 10) (by rw [i1, kk]) ⟨i0, nm_r (e' := (B 1) p) (by rw [i1]) <| br_t rfl ⟨i4, br_f (by rw [i5]; exact c2) ?_⟩⟩⟩
    exact br_f uv_n_10_0 <| br_f uv_n_10_1 <| br_f uv_n_10_2 <| br_f uv_n_10_3 <| br_f uv_n_10_5 <| br_f uv_n_10_6 <| br_f uv_n_10_7 <| br_f uv_n_10_8 <| br_f uv_n_10_1 <| br_f uv_n_10_6 <| br_f uv_n_10_4 <| br_f uv_n_10_8 <| br_f uv_n_10_4 <| br_f uv_n_10_4 <| br_f uv_n_10_5 <| br_f uv_n_10_9 <| br_t rfl ⟨i4, nm_r (e' := nI (ss_C (S p) (ss_O (S p)))) (by rw [i5, c1]) <| nm_r c3 ⟨_, K⟩⟩
end
end
section
/-! the whole program read -/
theorem ys_fr_t {G G' G'' : Nat → Int32} {B B' B'' : Nat → Nat → Int32} (h : ys_fr G B G' B') (h' : ys_fr G' B' G'' B'') : ys_fr G B G'' B'' :=
  ⟨fun i hi => (h'.1 i hi).trans (h.1 i hi), fun i hi => (h'.2 i hi).trans (h.2 i hi)⟩
section
variable {post : SY → Prop} {S : Nat → ss_T} {n : Nat} {k a : Nat → Int32}
theorem ys_scan65 (hS : ss_S k a n S) (hn96 : n ≤ 96) : ∀ (d p fuel : Nat) (G : Nat → Int32) (B : Nat → Nat → Int32), p + d = n → d < fuel → (B 0) = k → (B 1) = a → (G 4) = nI n →
    ys_A k a S p (G 5) (G 6) (G 7) (G 8) (B 2) (B 3) (B 4) (B 5) (B 6) (B 7) →
    (∀ G' B', ys_fr G B G' B' → ys_A k a S n (G' 5) (G' 6) (G' 7) (G' 8) (B' 2) (B' 3) (B' 4) (B' 5) (B' 6) (B' 7) → post (uv_Y G' B')) →
    wY_scan_65 post fuel (nI p) (G 0) (G 1) (G 2) (G 3) (G 4) (G 5) (G 6) (G 7) (G 8) (G 9) (G 10) (G 11) (G 12) (G 13) (G 14) (G 15) (G 16) (G 17) (G 18) (B 0) (B 1) (B 2) (B 3) (B 4) (B 5) (B 6) (B 7) (B 8) (B 9) (B 10) (B 11) (B 12) (B 13) (B 14) (B 15) (B 16) (B 17) (B 18) (B 19) (B 20) (B 21) (B 22) (B 23) := by
  intro d
  induction d with
  | zero =>
    intro p fuel G B hp hf hk ha hn hA h
    obtain ⟨m, rfl⟩ : ∃ m, fuel = m + 1 := ⟨fuel - 1, by omega⟩
    have e : p = n := by omega
    subst e
    have i1 : (G 4) ≤ nI p := by rw [hn]; exact nI_le (Nat.le_refl _) (by omega)
    rw [wY_scan_65]
    refine br_t i1 ?_
    exact h G B ⟨fun _ _ => rfl, fun _ _ => rfl⟩ hA
  | succ d ih =>
    intro p fuel G B hp hf hk ha hn hA h
    obtain ⟨m, rfl⟩ : ∃ m, fuel = m + 1 := ⟨fuel - 1, by omega⟩
    have i1 : ¬ (G 4) ≤ nI p := by rw [hn]; exact nI_ge (by omega) (by omega)
    rw [wY_scan_65]
    refine br_f i1 ?_
    have hR := hS.2 p (by omega)
    rw [← hk, ← ha] at hR
    have hA' := hA
    rw [← hk, ← ha] at hA'
    refine ys_read (G := G) (B := B) hR (ss_I_S hS p (by omega)) (by omega) hA' (fun G' B' hfr hA2 => ?_)
    have e0 : (B' 0) = k := (hfr.2 0 (by omega)).trans hk
    have e1 : (B' 1) = a := (hfr.2 1 (by omega)).trans ha
    have e2 : (G' 4) = nI n := (hfr.1 4 (by omega)).trans hn
    rw [hk, ha] at hA2
    have K := ih (p + 1) m G' B' (by omega) (by omega) e0 e1 e2 hA2 (fun G2 B2 hfr2 hA3 => h G2 B2 (ys_fr_t hfr hfr2) hA3)
    show ∀ x1, x1 = nI p + 1 → wY_scan_65 post m x1 (G' 0) (G' 1) (G' 2) (G' 3) (G' 4) (G' 5) (G' 6) (G' 7) (G' 8) (G' 9) (G' 10) (G' 11) (G' 12) (G' 13) (G' 14) (G' 15) (G' 16) (G' 17) (G' 18) (B' 0) (B' 1) (B' 2) (B' 3) (B' 4) (B' 5) (B' 6) (B' 7) (B' 8) (B' 9) (B' 10) (B' 11) (B' 12) (B' 13) (B' 14) (B' 15) (B' 16) (B' 17) (B' 18) (B' 19) (B' 20) (B' 21) (B' 22) (B' 23)
    exact nm_r (nI_1 p) K
theorem ys_scan2 (hS : ss_S k a n S) (hn96 : n ≤ 96) {G : Nat → Int32} (hn : (G 4) = nI n) : ∀ (d c fuel : Nat) (B : Nat → Nat → Int32), c + d = 768 → d < fuel → (B 0) = k → (B 1) = a → (∀ i, i < c → (B 7) i = 0) →
    (∀ G' B', ys_fr G B G' B' → ys_A k a S n (G' 5) (G' 6) (G' 7) (G' 8) (B' 2) (B' 3) (B' 4) (B' 5) (B' 6) (B' 7) → post (uv_Y G' B')) →
    wY_scan_2 post (G 0) (G 1) (G 2) (G 3) (G 4) (G 5) (G 6) (G 7) (G 8) (G 9) (G 10) (G 11) (G 12) (G 13) (G 14) (G 15) (G 16) (G 17) (G 18) fuel (nI c) (B 0) (B 1) (B 2) (B 3) (B 4) (B 5) (B 6) (B 7) (B 8) (B 9) (B 10) (B 11) (B 12) (B 13) (B 14) (B 15) (B 16) (B 17) (B 18) (B 19) (B 20) (B 21) (B 22) (B 23) := by
  intro d
  induction d with
  | zero =>
    intro c fuel B hc hf hk ha hct h
    obtain ⟨m, rfl⟩ : ∃ m, fuel = m + 1 := ⟨fuel - 1, by omega⟩
    have i1 : (768 : Int32) ≤ nI c := nI_le (a := 768) (by omega) (by omega)
    rw [wY_scan_2]
    refine br_t i1 (nm_e (nm_e (nm_e ⟨n + 1, ?_⟩)))
    refine ys_scan65 hS hn96 n 0 (n + 1) (uv_st (uv_st (uv_st (uv_st G 5 (0)) 6 (0)) 7 (0)) 8 (0)) (uv_st (uv_st (uv_st B 2 (upd (B 2) 0 0)) 4 (upd (B 4) 0 0)) 5 (upd (B 5) 0 0)) (by omega) (by omega) hk ha hn ?_ (fun G' B' hfr hA => h G' B' ?_ hA)
    · unfold ys_A
      rw [hS.1]
      refine ⟨rfl, rfl, rfl, rfl, fun i hi => ?_, fun i hi _ => ?_, fun i h1 hi => ?_, fun j hj => ?_, fun w m' hw hm => ⟨?_, fun _ => hct _ (by omega)⟩⟩
      · have : i = 0 := by have : i ≤ 0 := hi
                           omega
        subst this; exact ⟨rfl, rfl⟩
      · have : i = 0 := by have : i ≤ 0 := hi
                           omega
        subst this; rfl
      · have : i ≤ 0 := hi
        omega
      · have : j < 0 := hj
        omega
      · rintro ⟨q, _, hq, _⟩; omega
    · refine ⟨fun i hi => ?_, fun i hi => ?_⟩
      · rw [hfr.1 i hi, uv_sn (by omega), uv_sn (by omega), uv_sn (by omega), uv_sn (by omega)]
      · rw [hfr.2 i hi, uv_sn (by omega), uv_sn (by omega), uv_sn (by omega)]
  | succ d ih =>
    intro c fuel B hc hf hk ha hct h
    obtain ⟨m, rfl⟩ : ∃ m, fuel = m + 1 := ⟨fuel - 1, by omega⟩
    have i1 : ¬ (768 : Int32) ≤ nI c := nI_ge (b := 768) (by omega) (by omega)
    have i2 : vp_in (nI c) 768 := vp_in_nI (by omega) (by omega)
    have i3 : (nI c).toNatClampNeg = c := nI_clamp (by omega)
    have K := ih (c + 1) m (uv_st B 7 (upd (B 7) c 0)) (by omega) (by omega) hk ha (fun i hi => by
      show upd ((B 7)) c 0 i = 0
      by_cases e : i = c
      · rw [e, pk_us]
      · rw [pk_un e]; exact hct i (by omega)) (fun G' B' hfr hA => h G' B' ⟨hfr.1, fun i hi => by rw [hfr.2 i hi, uv_sn (by omega)]⟩ hA)
    rw [wY_scan_2]
    refine br_f i1 ⟨i2, nm_e (nm_r (nI_1 c) ?_)⟩
    rw [i3, uv_b0]
    exact K
theorem ys_scan {G : Nat → Int32} {B : Nat → Nat → Int32} (hS : ss_S (B 0) (B 1) n S) (hn96 : n ≤ 96) (hn : (G 4) = nI n)
    (h : ∀ G' B', ys_fr G B G' B' → ys_A (B 0) (B 1) S n (G' 5) (G' 6) (G' 7) (G' 8) (B' 2) (B' 3) (B' 4) (B' 5) (B' 6) (B' 7) → post (uv_Y G' B')) : wpY_scan post (uv_Y G B) := by
  unfold wpY_scan uv_Y
  exact ⟨769, ys_scan2 hS hn96 hn 768 0 769 B (by omega) (by omega) rfl rfl (fun i hi => by omega) h⟩
end
end
section
/-! the component's helpers of building -/
section
variable {F : Nat → Int32} {A : Nat → Nat → Int32}
theorem xw_find_lp {s : ss_T} {x : Int32} (hV : ss_V s ≤ 88) (hN : ∀ j, j < ss_V s → (A 12) j = ss_N s j) : ∀ (j fuel : Nat), j ≤ ss_V s → j < fuel → ∀ post : Int32 → Prop, post (nI (ss_ls (ss_N s) x j) - 1) →
    wX_findVariable_7 post x (F 0) (F 1) (F 2) (F 3) (F 4) (F 5) (F 6) (F 7) (F 8) (F 9) (F 10) (F 11) (F 12) (F 13) (F 14) (F 15) (F 16) (F 17) (F 18) (F 19) (F 20) (F 21) (F 22) (F 23) (F 24) (F 25) (F 26) (F 27) (F 28) (F 29) (F 30) (F 31) (F 32) (F 33) (F 34) (F 35) (F 36) (F 37) (F 38) (F 39) (F 40) (F 41) (F 42) (F 43) (F 44) (A 0) (A 1) (A 2) (A 3) (A 4) (A 5) (A 6) (A 7) (A 8) (A 9) (A 10) (A 11) (A 12) (A 13) (A 14) (A 15) (A 16) (A 17) (A 18) (A 19) (A 20) (A 21) (A 22) (A 23) (A 24) (A 25) (A 26) fuel (nI j - 1) := by
  intro j
  induction j with
  | zero =>
    intro fuel _ hf post hp
    obtain ⟨m, rfl⟩ : ∃ m, fuel = m + 1 := ⟨fuel - 1, by omega⟩
    rw [wX_findVariable_7]
    exact br_t (by decide) hp
  | succ j ih =>
    intro fuel hj hf post hp
    obtain ⟨m, rfl⟩ : ∃ m, fuel = m + 1 := ⟨fuel - 1, by omega⟩
    have i1 : ¬ nI j < 0 := nI_pos (by omega)
    have i2 : vp_in (nI j) 88 := vp_in_nI (by omega) (by omega)
    have i3 : (nI j).toNatClampNeg = j := nI_clamp (by omega)
    have i4 : nI j + (-1) = nI j - 1 := by rw [Int32.sub_eq_add_neg]
    have k1 := hN j (by omega)
    have u : ss_ls (ss_N s) x (j + 1) = if ss_N s j = x then j + 1 else ss_ls (ss_N s) x j := rfl
    rw [nI_pred, wX_findVariable_7]
    refine br_f i1 ⟨i2, ?_⟩
    rw [i3, k1]
    by_cases c : ss_N s j = x
    · rw [u, if_pos c, nI_pred] at hp
      exact br_t c hp
    · rw [u, if_neg c] at hp
      exact br_f c (nm_r i4 (ih m (by omega) (by omega) post hp))
theorem xw_find {S : Nat → ss_T} {n : Nat} {x : Int32} {post : Int32 → Prop} (hI : ss_I n (S n)) (hv : (F 32) = nI (ss_V (S n))) (hN : ∀ j, j < ss_V (S n) → (A 12) j = ss_N (S n) j)
    (hp : post (nI (ss_l (S n) x) - 1)) : wpX_findVariable post (uv_X F A) x := by
  have hV := ss_V88 hI
  unfold wpX_findVariable uv_X
  refine nm_r (e' := nI (ss_V (S n)) - 1) (by rw [hv]) ⟨ss_V (S n) + 1, ?_⟩
  exact xw_find_lp (F := F) (A := A) hV hN (ss_V (S n)) _ (Nat.le_refl _) (by omega) post hp
end
/-! functions by their depth -/
theorem ss_fd_ex {K : Nat → Int32} {d : Nat} (h1 : 1 ≤ d) : ∀ {i : Nat}, d ≤ ss_fd K i → ∃ c, 1 ≤ c ∧ c ≤ i ∧ K c = 5 ∧ ss_fd K c = d
  | 0, h => by have : d ≤ 0 := h
               omega
  | i + 1, h => by
    by_cases h5 : K (i + 1) = 5
    · rw [ss_fd_s5 h5] at h
      by_cases e : d = ss_fd K i + 1
      · exact ⟨i + 1, by omega, Nat.le_refl _, h5, by rw [ss_fd_s5 h5, e]⟩
      · obtain ⟨c, c1, c2, c3⟩ := ss_fd_ex (K := K) h1 (i := i) (by omega)
        exact ⟨c, c1, by omega, c3⟩
    · rw [ss_fd_sn h5] at h
      obtain ⟨c, c1, c2, c3⟩ := ss_fd_ex (K := K) h1 (i := i) h
      exact ⟨c, c1, by omega, c3⟩
theorem ss_ow_mono {K : Nat → Int32} {C : Nat → Nat} {j : Nat} {i : Nat} : ∀ {i' : Nat}, i ≤ i' → ss_ow K C j i ≤ ss_ow K C j i'
  | 0, h => by have : i = 0 := by omega
               subst this; exact Nat.le_refl _
  | q + 1, h => by
    by_cases e : i = q + 1
    · subst e; exact Nat.le_refl _
    · have := ss_ow_mono (K := K) (C := C) (j := j) (i := i) (i' := q) (by omega)
      have u : ss_ow K C j (q + 1) = ss_ow K C j q + (if K (q + 1) = 5 ∧ C (q + 1) ≤ j then 1 else 0) := rfl
      omega
/-- a function is open beyond variable l - 1 just if its depth is greater than the owner's -/
theorem ss_ow_iff {p c l : Nat} {s : ss_T} (hI : ss_I p s) (hl : l ≠ 0) (h1 : 1 ≤ c) (h2 : c ≤ ss_O s) (h5 : ss_K s c = 5) :
    l ≤ ss_C s c ↔ ss_ow (ss_K s) (ss_C s) (l - 1) (ss_O s) < ss_fd (ss_K s) c := by
  constructor
  · intro h
    obtain ⟨q, rfl⟩ : ∃ q, c = q + 1 := ⟨c - 1, by omega⟩
    have e := ss_ow_cut (K := ss_K s) (C := ss_C s) (j := l - 1) (c := q) (i := ss_O s) (by omega) (fun d d1 d2 _ => by
      by_cases e : d = q + 1
      · rw [e]; omega
      · have := (hI.2.2.2.2.2.2.2.1 (q + 1) d h1 (by omega) d2).2.1
        omega)
    rw [e, ss_fd_s5 h5]
    have := ss_ow_le (ss_K s) (ss_C s) (l - 1) q
    omega
  · intro h
    by_cases z : l ≤ ss_C s c
    · exact z
    · have e := ss_ow_all (K := ss_K s) (C := ss_C s) (j := l - 1) (i := c) (fun d d1 d2 _ => by
        by_cases e : d = c
        · rw [e]; omega
        · have := (hI.2.2.2.2.2.2.2.1 d c d1 (by omega) h2).2.1
          omega)
      have := ss_ow_mono (K := ss_K s) (C := ss_C s) (j := l - 1) h2
      omega
section
variable {F : Nat → Int32} {S : Nat → ss_T} {n : Nat} {k a : Nat → Int32} {post : SX → Prop} {m0 : Nat} {fc oc vc : Int32} {oK oW oV fO fF fP vN vO ps0 : Nat → Int32}
/-- which entries the capture of variable l - 1 has written when the functions up to depth d are done -/
def xw_cs (S : Nat → ss_T) (n m0 d w m : Nat) : Prop := m = m0 ∧ ∃ c, 1 ≤ c ∧ c ≤ ss_O (S n) ∧ ss_K (S n) c = 5 ∧ ss_W (S n) c = w ∧ ss_l (S n) (nI m0) ≤ ss_C (S n) c ∧ ss_fd (ss_K (S n)) c ≤ d
theorem xw_cap_lp (hS : ss_S k a n S) (hm0 : m0 < 8) (hl : ss_l (S n) (nI m0) ≠ 0) (hfd : (F 31) = nI (ss_fd (ss_K (S n)) (ss_O (S n)))) :
    ∀ (e d fuel : Nat) (A : Nat → Nat → Int32), d + e = ss_fd (ss_K (S n)) (ss_O (S n)) → ss_ow (ss_K (S n)) (ss_C (S n)) (ss_l (S n) (nI m0) - 1) (ss_O (S n)) ≤ d → e < fuel →
    (∀ i, 1 ≤ i → i ≤ ss_O (S n) → ss_K (S n) i = 5 → (A 11) (ss_fd (ss_K (S n)) i) = nI (ss_F (S (ss_W (S n) i)))) →
    (A 12) (ss_l (S n) (nI m0) - 1) = nI m0 →
    (∀ w, w < n → k w = 4 → ∀ m, m < 8 → (xw_cs S n m0 d w m → (A 5) (ss_F (S w) * 8 + m) = ss_sc (S w) (nI m)) ∧ (¬ xw_cs S n m0 d w m → (A 5) (ss_F (S w) * 8 + m) = ps0 (ss_F (S w) * 8 + m))) →
    (∀ ps', (∀ w, w < n → k w = 4 → ∀ m, m < 8 → (xw_cs S n m0 (ss_fd (ss_K (S n)) (ss_O (S n))) w m → ps' (ss_F (S w) * 8 + m) = ss_sc (S w) (nI m)) ∧ (¬ xw_cs S n m0 (ss_fd (ss_K (S n)) (ss_O (S n))) w m → ps' (ss_F (S w) * 8 + m) = ps0 (ss_F (S w) * 8 + m))) →
      post (uv_X F (uv_st A 5 (ps')))) →
    ∀ src : Int32, (∀ c, 1 ≤ c → c ≤ ss_O (S n) → ss_K (S n) c = 5 → ss_fd (ss_K (S n)) c = d + 1 → src = ss_sc (S (ss_W (S n) c)) (nI m0)) →
    wX_capture_21 post (nI (ss_l (S n) (nI m0) - 1)) (F 0) (F 1) (F 2) (F 3) (F 4) (F 5) (F 6) (F 7) (F 8) (F 9) (F 10) (F 11) (F 12) (F 13) (F 14) (F 15) (F 16) (F 17) (F 18) (F 19) (F 20) (F 21) (F 22) (F 23) (F 24) (F 25) (F 26) (F 27) (F 28) (F 29) (F 30) (F 31) (F 32) (F 33) (F 34) (F 35) (F 36) (F 37) (F 38) (F 39) (F 40) (F 41) (F 42) (F 43) (F 44) fuel src (nI (d + 1)) (A 0) (A 1) (A 2) (A 3) (A 4) (A 5) (A 6) (A 7) (A 8) (A 9) (A 10) (A 11) (A 12) (A 13) (A 14) (A 15) (A 16) (A 17) (A 18) (A 19) (A 20) (A 21) (A 22) (A 23) (A 24) (A 25) (A 26) := by
  intro e
  have hI := ss_I_S hS n (Nat.le_refl _)
  have hV := ss_V88 hI
  have hlV : ss_l (S n) (nI m0) ≤ ss_V (S n) := ss_ls_le _ _ _
  have hfO := ss_fd_le (ss_K (S n)) (ss_O (S n))
  have hO := hI.1
  induction e with
  | zero =>
    intro d fuel A hd how hf hP hN hps hpost src hsrc
    obtain ⟨m, rfl⟩ : ∃ m, fuel = m + 1 := ⟨fuel - 1, by omega⟩
    have ed : d = ss_fd (ss_K (S n)) (ss_O (S n)) := by omega
    have i1 : (F 31) < nI (d + 1) := by rw [hfd, ed]; exact nI_lt (by omega) (by omega)
    rw [wX_capture_21]
    refine br_t i1 ?_
    rw [ed] at hps
    exact hpost ((A 5)) hps
  | succ e ih =>
    intro d fuel A hd how hf hP hN hps hpost src hsrc
    obtain ⟨m, rfl⟩ : ∃ m, fuel = m + 1 := ⟨fuel - 1, by omega⟩
    obtain ⟨c, c1, c2, c5, cd⟩ := ss_fd_ex (K := ss_K (S n)) (d := d + 1) (by omega) (i := ss_O (S n)) (by omega)
    have hlc : ss_l (S n) (nI m0) ≤ ss_C (S n) c := (ss_ow_iff hI hl c1 c2 c5).mpr (by omega)
    have o : ss_on S n (ss_W (S n) c) c := ⟨c1, c2, rfl⟩
    obtain ⟨b1, b2, b3, b4, b5, b6, b7⟩ := ss_fw hS (Nat.le_refl _) o c5
    have hFw := ss_F_lt hS (p := n) (Nat.le_refl _) b1 b2
    have hF16 := hI.2.1
    have i1 : ¬ (F 31) < nI (d + 1) := by rw [hfd]; exact nI_nlt (by omega) (by omega)
    have i2 : vp_in (nI (d + 1)) 11 := vp_in_nI (by omega) (by omega)
    have i3 : (nI (d + 1)).toNatClampNeg = d + 1 := nI_clamp (by omega)
    have i4 : vp_in (nI (ss_l (S n) (nI m0) - 1)) 88 := vp_in_nI (by omega) (by omega)
    have i5 : (nI (ss_l (S n) (nI m0) - 1)).toNatClampNeg = ss_l (S n) (nI m0) - 1 := nI_clamp (by omega)
    have k1 : (A 11) (d + 1) = nI (ss_F (S (ss_W (S n) c))) := by rw [← cd]; exact hP c c1 c2 c5
    have i6 := uv_8 (ss_F (S (ss_W (S n) c))) m0
    have i7 : vp_in (nI (ss_F (S (ss_W (S n) c)) * 8 + m0)) 128 := vp_in_nI (by omega) (by omega)
    have i8 : (nI (ss_F (S (ss_W (S n) c)) * 8 + m0)).toNatClampNeg = ss_F (S (ss_W (S n) c)) * 8 + m0 := nI_clamp (by omega)
    have i9 : nI (d + 1) + 1 = nI (d + 1 + 1) := nI_1 _
    have es := hsrc c c1 c2 c5 cd
    have K := ih (d + 1) m (uv_st A 5 (upd (A 5) (ss_F (S (ss_W (S n) c)) * 8 + m0) src)) (by omega) (by omega) (by omega) hP hN (fun w hw hk m' hm => by
      show (xw_cs S n m0 (d + 1) w m' → upd ((A 5)) (ss_F (S (ss_W (S n) c)) * 8 + m0) src (ss_F (S w) * 8 + m') = ss_sc (S w) (nI m')) ∧ (¬ xw_cs S n m0 (d + 1) w m' → upd ((A 5)) (ss_F (S (ss_W (S n) c)) * 8 + m0) src (ss_F (S w) * 8 + m') = ps0 (ss_F (S w) * 8 + m'))
      by_cases q : w = ss_W (S n) c ∧ m' = m0
      · rw [q.1, q.2, pk_us]
        exact ⟨fun _ => es, fun y => absurd ⟨rfl, c, c1, c2, c5, rfl, hlc, by omega⟩ y⟩
      · have ne : ss_F (S w) * 8 + m' ≠ ss_F (S (ss_W (S n) c)) * 8 + m0 := fun y => q (by
          have e1 : ss_F (S w) = ss_F (S (ss_W (S n) c)) := by omega
          exact ⟨ss_F_inj hS hw b1 hk b2 e1, by omega⟩)
        rw [pk_un ne]
        have eqv : xw_cs S n m0 (d + 1) w m' ↔ xw_cs S n m0 d w m' := by
          constructor
          · rintro ⟨em, c', g1, g2, g3, g4, g5, g6⟩
            refine ⟨em, c', g1, g2, g3, g4, g5, ?_⟩
            have : ss_fd (ss_K (S n)) c' ≠ d + 1 := fun y => by
              have e2 : c' = c := ss_fd_inj (Or.inr g3) (Or.inr c5) (by omega)
              exact q ⟨by rw [← g4, e2], em⟩
            omega
          · rintro ⟨em, c', g1, g2, g3, g4, g5, g6⟩
            exact ⟨em, c', g1, g2, g3, g4, g5, by omega⟩
        rw [eqv]
        exact hps w hw hk m' hm) (fun ps' hp' => hpost ps' hp') (-1) (fun c' g1 g2 g5 gd => by
      -- the next function lies beyond c, which is beyond the variable
      have hlc' : ss_l (S n) (nI m0) ≤ ss_C (S n) c' := (ss_ow_iff hI hl g1 g2 g5).mpr (by omega)
      have o' : ss_on S n (ss_W (S n) c') c' := ⟨g1, g2, rfl⟩
      have el := ss_fw_l hS (Nat.le_refl _) o' g5 hlc'
      have ef := ss_fw_f hS (Nat.le_refl _) o' g5
      obtain ⟨_, _, b3', _, _, b6', _⟩ := ss_fw hS (Nat.le_refl _) o' g5
      have hfl := ss_fx_le (ss_K (S n)) (c' - 1)
      have lt : c < c' := by
        rcases Nat.lt_trichotomy c c' with z | z | z
        · exact z
        · rw [z] at cd; omega
        · have := ss_fd_lt z c5; omega
      have ecf : ss_fx (ss_K (S n)) (c' - 1) = c := by
        obtain ⟨q, rfl⟩ : ∃ q, c' = q + 1 := ⟨c' - 1, by omega⟩
        rw [ss_fd_s5 g5] at gd
        have hk := ss_fx_k (ss_K (S n)) q
        rw [Nat.add_sub_cancel]
        refine ss_fd_inj (K := ss_K (S n)) ?_ (Or.inr c5) ?_
        · rcases hk with z | z
          · exact Or.inl z
          · exact Or.inr z.2
        · rw [ss_fd_fx]; omega
      unfold ss_sc
      rw [el, ef, ecf, (b6' c (by omega)).2.2.1, if_neg (by omega)])
    rw [wX_capture_21]
    refine br_f i1 ⟨i2, i4, ?_⟩
    rw [i3, i5, k1, hN, i6, i8]
    refine ⟨i7, nm_e (nm_r i9 K)⟩
end
end
section
/-! the component's building calls -/
theorem uv_m1 {q : Nat} (h : 1 ≤ q) : nI q - 1 = nI (q - 1) := pk_sub (b := 1) h
def xb_K (F : Nat → Int32) (A : Nat → Nat → Int32) (n mw d q c0 V : Nat) : Prop :=
  (F 28) = nI n ∧ (F 24) = nI mw ∧ n ≤ mw ∧ mw ≤ 96 ∧ (F 31) = nI d ∧ d ≤ 10 ∧ (A 9) d = nI q ∧ q ≤ 6 ∧ (A 10) d = nI c0 ∧ (F 32) = nI V ∧ c0 ≤ V ∧ V ≤ 88
section
variable {F : Nat → Int32} {A : Nat → Nat → Int32} {n mw d q c0 V : Nat} {x : Int32}
theorem xb_in (hK : xb_K F A n mw d q c0 V) : vp_in ((F 31)) 11 := by rw [hK.2.2.2.2.1]; exact vp_in_nI (by have := hK.2.2.2.2.2.1; omega) (by omega)
theorem xb_cl (hK : xb_K F A n mw d q c0 V) : ((F 31)).toNatClampNeg = d := by rw [hK.2.2.2.2.1]; exact nI_clamp (by have := hK.2.2.2.2.2.1; omega)
theorem xb_q (hK : xb_K F A n mw d q c0 V) : (A 9) d = nI q := hK.2.2.2.2.2.2.1
theorem xb_full {post : Int32 → Prop} (hK : xb_K F A n mw d q c0 V) (h1 : n < mw → post 0) (h2 : mw ≤ n → post 1) : wpX_wordsFull post (uv_X F A) := by
  obtain ⟨a1, a2, a3, a4, _⟩ := hK
  unfold wpX_wordsFull uv_X
  exact pk_lt n mw h1 h2 a1 a2 (by omega) (by omega)
theorem xb_next {post : Int32 → Prop} (hK : xb_K F A n mw d q c0 V) (h : post (nI (V - c0 + q))) : wpX_nextRegister post (uv_X F A) := by
  have e : (F 32) - (A 10) d + (A 9) d = nI (V - c0 + q) := by
    rw [hK.2.2.2.2.2.2.2.2.2.1, hK.2.2.2.2.2.2.2.2.1, xb_q hK, pk_sub hK.2.2.2.2.2.2.2.2.2.2.1, nI_add]
  unfold wpX_nextRegister uv_X
  refine ⟨xb_in hK, xb_in hK, ?_⟩
  rw [xb_cl hK, e]
  exact h
theorem xb_live {post : Int32 → Prop} (hK : xb_K F A n mw d q c0 V) (h : post (nI (V - c0))) : wpX_liveCount post (uv_X F A) := by
  have e : (F 32) - (A 10) d = nI (V - c0) := by
    rw [hK.2.2.2.2.2.2.2.2.2.1, hK.2.2.2.2.2.2.2.2.1, pk_sub hK.2.2.2.2.2.2.2.2.2.2.1]
  unfold wpX_liveCount uv_X
  refine ⟨xb_in hK, ?_⟩
  rw [xb_cl hK, e]
  exact h
theorem xb_add {post : SX → Prop} {p0 p1 p2 p3 : Int32} (hK : xb_K F A n mw d q c0 V) (hlt : n < mw)
    (h : post (uv_X (uv_st F 28 (nI (n + 1))) (uv_st (uv_st (uv_st (uv_st A 0 (upd (A 0) n p0)) 1 (upd (A 1) n p1)) 2 (upd (A 2) n p2)) 3 (upd (A 3) n p3)))) :
    wpX_addWord post (uv_X F A) p0 p1 p2 p3 := xw_addWord hK.1 (by have := hK.2.2.2.1; omega) h
theorem xb_name {post : Int32 → Prop} (h0 : ¬ ss_nm x → post 0) (h1 : ss_nm x → post 1) : wpX_isName post (uv_X F A) x := by
  unfold wpX_isName uv_X
  refine br_c (fun c => h0 ?_) (fun c => br_c (fun c8 => h0 ?_) (fun c8 => h1 ?_))
  · rintro ⟨m, hm, rfl⟩
    exact nI_pos (by omega) c
  · rintro ⟨m, hm, rfl⟩
    exact nI_ge (b := 8) hm (by omega) c8
  · obtain ⟨j, hj, rfl⟩ := nI_of c
    refine ⟨j, ?_, rfl⟩
    by_cases z : j < 8
    · exact z
    · exact absurd (nI_le (a := 8) (by omega) hj) c8
theorem xm_number {post : Int32 → SX → Prop} (hK : xb_K F A n mw d q c0 V) (h1 : (mw ≤ n ∨ 6 ≤ q) → post 4 (uv_X F A))
    (h2 : n < mw → q < 6 → post 0 (uv_X (uv_st F 28 (nI (n + 1))) (uv_st (uv_st (uv_st (uv_st (uv_st A 0 (upd (A 0) n 0)) 1 (upd (A 1) n (nI (V - c0 + q)))) 2 (upd (A 2) n x)) 3 (upd (A 3) n 0)) 9 (upd (A 9) d (nI (q + 1)))))) :
    wpX_number post (uv_X F A) x := by
  unfold wpX_number uv_X
  refine xb_full (F := F) (A := A) hK (fun hlt => ?_) (fun hge => ?_)
  · refine br_t rfl ⟨xb_in hK, ?_⟩
    rw [xb_cl hK, xb_q hK]
    refine pk_lt q 6 (fun h6 => ?_) (fun h6 => h1 (Or.inr h6)) rfl rfl (by have := hK.2.2.2.2.2.2.2.1; omega) (by omega)
    refine xb_next (F := F) (A := A) hK ?_
    refine xb_add (F := F) (A := A) hK hlt ?_
    show vp_in ((F 31)) 11 ∧ vp_in ((F 31)) 11 ∧ ∀ a, a = upd (A 9) ((F 31)).toNatClampNeg ((A 9) ((F 31)).toNatClampNeg + 1) →
      post 0 (uv_X (uv_st F 28 (nI (n + 1))) (uv_st (uv_st (uv_st (uv_st (uv_st A 0 (upd (A 0) n 0)) 1 (upd (A 1) n (nI (V - c0 + q)))) 2 (upd (A 2) n x)) 3 (upd (A 3) n 0)) 9 (a)))
    refine ⟨xb_in hK, xb_in hK, nm_e ?_⟩
    rw [xb_cl hK, xb_q hK, nI_1]
    exact h2 hlt h6
  · exact br_f (by decide) (h1 (Or.inl hge))
theorem xm_op {post : Int32 → SX → Prop} (hK : xb_K F A n mw d q c0 V) (h0 : ¬ ss_k5 x → post 1 (uv_X F A)) (h1 : ss_k5 x → q < 2 → post 2 (uv_X F A)) (h2 : ss_k5 x → 2 ≤ q → mw ≤ n → post 4 (uv_X F A))
    (h3 : ss_k5 x → 2 ≤ q → n < mw → post 0 (uv_X (uv_st F 28 (nI (n + 1))) (uv_st (uv_st (uv_st (uv_st (uv_st A 0 (upd (A 0) n 3)) 1 (upd (A 1) n (nI (V - c0 + q - 2)))) 2 (upd (A 2) n x)) 3 (upd (A 3) n 0)) 9 (upd (A 9) d (nI (q - 1)))))) :
    wpX_op post (uv_X F A) x := by
  unfold wpX_op uv_X
  refine br_c (fun c => h0 ?_) (fun c => br_c (fun c4 => ?_) (fun c4 => h0 ?_))
  · rintro ⟨m, hm, rfl⟩
    exact nI_pos (by omega) c
  · have k5 : ss_k5 x := by
      obtain ⟨j, hj, rfl⟩ := nI_of2 (M := 4) (n := 4) (by decide) c c4
      exact ⟨j, by omega, rfl⟩
    refine ⟨xb_in hK, ?_⟩
    rw [xb_cl hK, xb_q hK]
    refine pk_le 2 q (fun hq => ?_) (fun hq => h1 k5 hq) rfl rfl (by omega) (by have := hK.2.2.2.2.2.2.2.1; omega)
    refine xb_full (F := F) (A := A) hK (fun hlt => br_t rfl ?_) (fun hge => br_f (by decide) (h2 k5 hq hge))
    refine xb_next (F := F) (A := A) hK ?_
    refine nm_r (e' := nI (V - c0 + q - 2)) (pk_sub (b := 2) (by omega)) ?_
    refine xb_add (F := F) (A := A) hK hlt ?_
    show vp_in ((F 31)) 11 ∧ vp_in ((F 31)) 11 ∧ ∀ a, a = upd (A 9) ((F 31)).toNatClampNeg ((A 9) ((F 31)).toNatClampNeg - 1) →
      post 0 (uv_X (uv_st F 28 (nI (n + 1))) (uv_st (uv_st (uv_st (uv_st (uv_st A 0 (upd (A 0) n 3)) 1 (upd (A 1) n (nI (V - c0 + q - 2)))) 2 (upd (A 2) n x)) 3 (upd (A 3) n 0)) 9 (a)))
    refine ⟨xb_in hK, xb_in hK, nm_e ?_⟩
    rw [xb_cl hK, xb_q hK, uv_m1 (q := q) (by omega)]
    exact h3 k5 hq hlt
  · rintro ⟨m, hm, rfl⟩
    exact c4 (nI_le (b := 4) (by omega) (by omega))
theorem xm_call {post : Int32 → SX → Prop} (hK : xb_K F A n mw d q c0 V) (h1 : q < 2 → post 2 (uv_X F A)) (h2 : 2 ≤ q → mw ≤ n → post 4 (uv_X F A))
    (h3 : 2 ≤ q → n < mw → post 0 (uv_X (uv_st F 28 (nI (n + 1))) (uv_st (uv_st (uv_st (uv_st (uv_st A 0 (upd (A 0) n 4)) 1 (upd (A 1) n (nI (V - c0 + q - 2)))) 2 (upd (A 2) n 0)) 3 (upd (A 3) n 0)) 9 (upd (A 9) d (nI (q - 1)))))) :
    wpX_call post (uv_X F A) := by
  unfold wpX_call uv_X
  refine ⟨xb_in hK, ?_⟩
  rw [xb_cl hK, xb_q hK]
  refine pk_le 2 q (fun hq => ?_) (fun hq => h1 hq) rfl rfl (by omega) (by have := hK.2.2.2.2.2.2.2.1; omega)
  refine xb_full (F := F) (A := A) hK (fun hlt => br_t rfl ?_) (fun hge => br_f (by decide) (h2 hq hge))
  refine xb_next (F := F) (A := A) hK ?_
  refine nm_r (e' := nI (V - c0 + q - 2)) (pk_sub (b := 2) (by omega)) ?_
  refine xb_add (F := F) (A := A) hK hlt ?_
  show vp_in ((F 31)) 11 ∧ vp_in ((F 31)) 11 ∧ ∀ a, a = upd (A 9) ((F 31)).toNatClampNeg ((A 9) ((F 31)).toNatClampNeg - 1) →
    post 0 (uv_X (uv_st F 28 (nI (n + 1))) (uv_st (uv_st (uv_st (uv_st (uv_st A 0 (upd (A 0) n 4)) 1 (upd (A 1) n (nI (V - c0 + q - 2)))) 2 (upd (A 2) n 0)) 3 (upd (A 3) n 0)) 9 (a)))
  refine ⟨xb_in hK, xb_in hK, nm_e ?_⟩
  rw [xb_cl hK, xb_q hK, uv_m1 (q := q) (by omega)]
  exact h3 hq hlt
theorem xb_addVar {post : SX → Prop} (hv : (F 32) = nI V) (hV : V < 88)
    (h : post (uv_X (uv_st F 32 (nI (V + 1))) (uv_st (uv_st A 12 (upd (A 12) V x)) 13 (upd (A 13) V ((F 31)))))) : wpX_addVariable post (uv_X F A) x := by
  have i1 : vp_in ((F 32)) 88 := by rw [hv]; exact vp_in_nI hV (by omega)
  have i2 : ((F 32)).toNatClampNeg = V := by rw [hv]; exact nI_clamp (by omega)
  have i3 : (F 32) + 1 = nI (V + 1) := by rw [hv]; exact nI_1 V
  unfold wpX_addVariable uv_X
  simp only [i1, i2, i3, forall_eq, true_and]
  exact h
theorem xb_open {post : SX → Prop} {o : Nat} (ho : (F 30) = nI o) (ho10 : o < 10)
    (h : post (uv_X (uv_st F 30 (nI (o + 1))) (uv_st (uv_st (uv_st A 6 (upd (A 6) o x)) 7 (upd (A 7) o ((F 28)))) 8 (upd (A 8) o ((F 32)))))) : wpX_openConstruct post (uv_X F A) x := by
  have i1 : vp_in ((F 30)) 10 := by rw [ho]; exact vp_in_nI ho10 (by omega)
  have i2 : ((F 30)).toNatClampNeg = o := by rw [ho]; exact nI_clamp (by omega)
  have i3 : (F 30) + 1 = nI (o + 1) := by rw [ho]; exact nI_1 o
  unfold wpX_openConstruct uv_X
  simp only [i1, i2, i3, forall_eq, true_and]
  exact h
theorem xm_declare {post : Int32 → SX → Prop} (hK : xb_K F A n mw d q c0 V) (hL : V - c0 ≤ 8) (h88 : V - c0 < 8 → V < 88) (h0 : ¬ ss_nm x → post 1 (uv_X F A)) (h1 : ss_nm x → q ≠ 1 → post 2 (uv_X F A)) (h2 : ss_nm x → q = 1 → (mw ≤ n ∨ 8 ≤ V - c0) → post 4 (uv_X F A))
    (h3 : ss_nm x → q = 1 → n < mw → V - c0 < 8 → post 0 (uv_X (uv_st (uv_st F 28 (nI (n + 1))) 32 (nI (V + 1))) (uv_st (uv_st (uv_st (uv_st (uv_st (uv_st (uv_st A 0 (upd (A 0) n 6)) 1 (upd (A 1) n (nI (V - c0)))) 2 (upd (A 2) n 0)) 3 (upd (A 3) n 0)) 9 (upd (A 9) d 0)) 12 (upd (A 12) V x)) 13 (upd (A 13) V ((F 31)))))) :
    wpX_declare post (uv_X F A) x := by
  unfold wpX_declare uv_X
  refine xb_name (F := F) (A := A) (fun hn => br_t rfl (h0 hn)) (fun hn => br_f (by decide) ⟨xb_in hK, ?_⟩)
  rw [xb_cl hK, xb_q hK]
  refine pk_eq q 1 (fun hq => ?_) (fun hq => h1 hn hq) rfl rfl (by have := hK.2.2.2.2.2.2.2.1; omega) (by omega)
  refine xb_full (F := F) (A := A) hK (fun hlt => br_t rfl ?_) (fun hge => br_f (by decide) (h2 hn hq (Or.inl hge)))
  refine xb_live (F := F) (A := A) hK ?_
  refine pk_lt (V - c0) 8 (fun h8 => ?_) (fun h8 => h2 hn hq (Or.inr h8)) rfl rfl (by omega) (by omega)
  refine xb_live (F := F) (A := A) hK ?_
  refine xb_add (F := F) (A := A) hK hlt ?_
  show vp_in ((F 31)) 11 ∧ ∀ a, a = upd (A 9) ((F 31)).toNatClampNeg 0 → wpX_addVariable _ (uv_X (uv_st F 28 (nI (n + 1))) (uv_st (uv_st (uv_st (uv_st (uv_st A 0 (upd (A 0) n 6)) 1 (upd (A 1) n (nI (V - c0)))) 2 (upd (A 2) n 0)) 3 (upd (A 3) n 0)) 9 (a))) x
  refine ⟨xb_in hK, nm_e ?_⟩
  rw [xb_cl hK]
  refine xb_addVar (F := (uv_st F 28 (nI (n + 1)))) (A := (uv_st (uv_st (uv_st (uv_st (uv_st A 0 (upd (A 0) n 6)) 1 (upd (A 1) n (nI (V - c0)))) 2 (upd (A 2) n 0)) 3 (upd (A 3) n 0)) 9 (upd (A 9) d 0))) (V := V) hK.2.2.2.2.2.2.2.2.2.1 (h88 h8) ?_
  exact h3 hn hq hlt h8
end
end
section
/-! the component's calls that take names from outside -/
section
variable {F : Nat → Int32} {A : Nat → Nat → Int32} {S : Nat → ss_T} {n : Nat} {k a : Nat → Int32} {m0 : Nat}
/-- what capture leaves in the table of sources -/
def xw_cz (k : Nat → Int32) (S : Nat → ss_T) (n m0 : Nat) (ps ps' : Nat → Int32) : Prop :=
  ∀ w, w < n → k w = 4 → ∀ m, m < 8 → ((m = m0 ∧ ∃ c, 1 ≤ c ∧ c ≤ ss_O (S n) ∧ ss_K (S n) c = 5 ∧ ss_W (S n) c = w ∧ ss_l (S n) (nI m0) ≤ ss_C (S n) c) → ps' (ss_F (S w) * 8 + m) = ss_sc (S w) (nI m)) ∧
    (¬ (m = m0 ∧ ∃ c, 1 ≤ c ∧ c ≤ ss_O (S n) ∧ ss_K (S n) c = 5 ∧ ss_W (S n) c = w ∧ ss_l (S n) (nI m0) ≤ ss_C (S n) c) → ps' (ss_F (S w) * 8 + m) = ps (ss_F (S w) * 8 + m))
theorem xw_capture {post : SX → Prop} (hS : ss_S k a n S) (hm0 : m0 < 8) (hl : ss_l (S n) (nI m0) ≠ 0)
    (hx : xc_S S n (F 29) (F 30) (F 31) (F 32) (A 6) (A 7) (A 8) (A 9) (A 10) (A 11) (A 12) (A 13))
    (h : ∀ ps', xw_cz k S n m0 ((A 5)) ps' → post (uv_X F (uv_st A 5 (ps')))) : wpX_capture post (uv_X F A) (nI (ss_l (S n) (nI m0) - 1)) := by
  obtain ⟨h1, h2, h3, h4, h5, h6, h7⟩ := hx
  have hI := ss_I_S hS n (Nat.le_refl _)
  have hV := ss_V88 hI
  have hlV : ss_l (S n) (nI m0) ≤ ss_V (S n) := ss_ls_le _ _ _
  obtain ⟨v1, v2⟩ := h7 (ss_l (S n) (nI m0) - 1) (by omega)
  have hN : ss_N (S n) (ss_l (S n) (nI m0) - 1) = nI m0 := ss_ls_at _ _ _ hl
  have how := ss_ow_le (ss_K (S n)) (ss_C (S n)) (ss_l (S n) (nI m0) - 1) (ss_O (S n))
  have hfO := ss_fd_le (ss_K (S n)) (ss_O (S n))
  have hO := hI.1
  -- the owner
  obtain ⟨co, co1, co2, co3⟩ : ∃ co, co ≤ ss_O (S n) ∧ (co = 0 ∨ ss_K (S n) co = 5) ∧ ss_fd (ss_K (S n)) co = ss_ow (ss_K (S n)) (ss_C (S n)) (ss_l (S n) (nI m0) - 1) (ss_O (S n)) := by
    rcases Nat.eq_zero_or_pos (ss_ow (ss_K (S n)) (ss_C (S n)) (ss_l (S n) (nI m0) - 1) (ss_O (S n))) with z | z
    · exact ⟨0, by omega, Or.inl rfl, by rw [z]; rfl⟩
    · obtain ⟨c, c1, c2, c3, c4⟩ := ss_fd_ex (K := ss_K (S n)) z how
      exact ⟨c, c2, Or.inr c3, c4⟩
  have hco : ss_C (S n) co < ss_l (S n) (nI m0) := by
    rcases co2 with z | z
    · rw [z, hI.2.2.2.1]; omega
    · rcases Nat.eq_zero_or_pos co with y | y
      · rw [y, hI.2.2.2.1]; omega
      · have := ss_ow_iff hI hl y co1 z
        by_cases q : ss_l (S n) (nI m0) ≤ ss_C (S n) co
        · have := this.mp q; omega
        · omega
  obtain ⟨_, f2, _⟩ := h6 co co1 co2
  rw [co3] at f2
  have i1 : vp_in (nI (ss_l (S n) (nI m0) - 1)) 88 := vp_in_nI (by omega) (by omega)
  have i2 : (nI (ss_l (S n) (nI m0) - 1)).toNatClampNeg = ss_l (S n) (nI m0) - 1 := nI_clamp (by omega)
  have i3 : vp_in (nI (ss_ow (ss_K (S n)) (ss_C (S n)) (ss_l (S n) (nI m0) - 1) (ss_O (S n)))) 11 := vp_in_nI (by omega) (by omega)
  have i4 : (nI (ss_ow (ss_K (S n)) (ss_C (S n)) (ss_l (S n) (nI m0) - 1) (ss_O (S n)))).toNatClampNeg = ss_ow (ss_K (S n)) (ss_C (S n)) (ss_l (S n) (nI m0) - 1) (ss_O (S n)) := nI_clamp (by omega)
  have i5 : nI (ss_l (S n) (nI m0) - 1) - nI (ss_C (S n) co) = nI (ss_l (S n) (nI m0) - 1 - ss_C (S n) co) := pk_sub (by omega)
  have i6 := nI_1 (ss_ow (ss_K (S n)) (ss_C (S n)) (ss_l (S n) (nI m0) - 1) (ss_O (S n)))
  have K := xw_cap_lp (F := F) (post := post) (ps0 := (A 5)) hS hm0 hl h3 (ss_fd (ss_K (S n)) (ss_O (S n)) - ss_ow (ss_K (S n)) (ss_C (S n)) (ss_l (S n) (nI m0) - 1) (ss_O (S n))) (ss_ow (ss_K (S n)) (ss_C (S n)) (ss_l (S n) (nI m0) - 1) (ss_O (S n))) 20 A
    (by omega) (Nat.le_refl _) (by omega) (fun i g1 g2 g5 => (h6 i g2 (Or.inr g5)).2.2 (by omega)) (by rw [v1]; exact hN) (fun w hw hk m hm => by
      have no : ¬ xw_cs S n m0 (ss_ow (ss_K (S n)) (ss_C (S n)) (ss_l (S n) (nI m0) - 1) (ss_O (S n))) w m := by
        rintro ⟨_, c, c1, c2, c5, _, c6, c7⟩
        have := (ss_ow_iff hI hl c1 c2 c5).mp c6
        omega
      exact ⟨fun z => absurd z no, fun _ => rfl⟩) (fun ps' hps => h ps' (fun w hw hk m hm => by
      have eqv : (m = m0 ∧ ∃ c, 1 ≤ c ∧ c ≤ ss_O (S n) ∧ ss_K (S n) c = 5 ∧ ss_W (S n) c = w ∧ ss_l (S n) (nI m0) ≤ ss_C (S n) c) ↔ xw_cs S n m0 (ss_fd (ss_K (S n)) (ss_O (S n))) w m := by
        constructor
        · rintro ⟨em, c, c1, c2, c3, c4, c5⟩
          exact ⟨em, c, c1, c2, c3, c4, c5, ss_fd_mono _ c2⟩
        · rintro ⟨em, c, c1, c2, c3, c4, c5, _⟩
          exact ⟨em, c, c1, c2, c3, c4, c5⟩
      rw [eqv]
      exact hps w hw hk m hm)) (nI (ss_l (S n) (nI m0) - 1 - ss_C (S n) co)) (fun c c1 c2 c5 cd => by
      have hlc : ss_l (S n) (nI m0) ≤ ss_C (S n) c := (ss_ow_iff hI hl c1 c2 c5).mpr (by omega)
      have o : ss_on S n (ss_W (S n) c) c := ⟨c1, c2, rfl⟩
      have el := ss_fw_l hS (Nat.le_refl _) o c5 hlc
      have ef := ss_fw_f hS (Nat.le_refl _) o c5
      obtain ⟨_, _, b3, _, _, b6, _⟩ := ss_fw hS (Nat.le_refl _) o c5
      have ecf : ss_fx (ss_K (S n)) (c - 1) = co := by
        obtain ⟨q, rfl⟩ : ∃ q, c = q + 1 := ⟨c - 1, by omega⟩
        rw [ss_fd_s5 c5] at cd
        have hk := ss_fx_k (ss_K (S n)) q
        rw [Nat.add_sub_cancel]
        refine ss_fd_inj (K := ss_K (S n)) ?_ co2 ?_
        · rcases hk with z | z
          · exact Or.inl z
          · exact Or.inr z.2
        · rw [ss_fd_fx]; omega
      have hfl := ss_fx_le (ss_K (S n)) (c - 1)
      unfold ss_sc
      rw [el, ef, ecf, (b6 co (by omega)).2.2.1, if_pos hco])
  unfold wpX_capture uv_X
  refine ⟨i1, nm_r (e' := nI (ss_ow (ss_K (S n)) (ss_C (S n)) (ss_l (S n) (nI m0) - 1) (ss_O (S n)))) (by rw [i2, v2]) ⟨i3, nm_r (e' := nI (ss_l (S n) (nI m0) - 1 - ss_C (S n) co)) (by rw [i4, f2, i5]) (nm_r i6 ⟨20, K⟩)⟩⟩
end
section
variable {F : Nat → Int32} {A : Nat → Nat → Int32} {S : Nat → ss_T} {n mw m0 : Nat} {k a : Nat → Int32}
/-- whether the variable is the open function's own -/
theorem xw_own (hS : ss_S k a n S) {l : Nat} (hl : l ≠ 0) (hlV : l ≤ ss_V (S n)) :
    (ss_ow (ss_K (S n)) (ss_C (S n)) (l - 1) (ss_O (S n)) = ss_fd (ss_K (S n)) (ss_O (S n)) ↔ ss_C (S n) (ss_f (S n)) < l) := by
  have hI := ss_I_S hS n (Nat.le_refl _)
  rcases xc_f5 (S n) with z | z
  · rw [z, hI.2.2.2.1]
    refine ⟨fun _ => by omega, fun _ => ?_⟩
    have e : ss_fd (ss_K (S n)) (ss_O (S n)) = 0 := by rw [← xc_fdf, z]; rfl
    have := ss_ow_le (ss_K (S n)) (ss_C (S n)) (l - 1) (ss_O (S n))
    omega
  · rcases Nat.eq_zero_or_pos (ss_f (S n)) with y | y
    · rw [y, hI.2.2.2.1]
      refine ⟨fun _ => by omega, fun _ => ?_⟩
      have e : ss_fd (ss_K (S n)) (ss_O (S n)) = 0 := by rw [← xc_fdf, y]; rfl
      have := ss_ow_le (ss_K (S n)) (ss_C (S n)) (l - 1) (ss_O (S n))
      omega
    · have i := ss_ow_iff hI hl y (ss_f_le _) z
      rw [xc_fdf] at i
      have := ss_ow_le (ss_K (S n)) (ss_C (S n)) (l - 1) (ss_O (S n))
      constructor
      · intro e
        by_cases q : ss_C (S n) (ss_f (S n)) < l
        · exact q
        · have := i.mp (by omega); omega
      · intro e
        by_cases q : ss_ow (ss_K (S n)) (ss_C (S n)) (l - 1) (ss_O (S n)) < ss_fd (ss_K (S n)) (ss_O (S n))
        · have := i.mpr q; omega
        · omega
theorem xm_get {post : Int32 → SX → Prop} {x : Int32} (hS : ss_S k a n S)
    (hx : xc_S S n (F 29) (F 30) (F 31) (F 32) (A 6) (A 7) (A 8) (A 9) (A 10) (A 11) (A 12) (A 13))
    (hK : xb_K F A n mw (ss_fd (ss_K (S n)) (ss_O (S n))) (ss_Q (S n)) (ss_C (S n) (ss_f (S n))) (ss_V (S n)))
    (h0 : ¬ ss_nm x → post 1 (uv_X F A)) (h1 : ss_nm x → ss_l (S n) x = 0 → post 3 (uv_X F A)) (h2 : ss_nm x → ss_l (S n) x ≠ 0 → (mw ≤ n ∨ 6 ≤ ss_Q (S n)) → post 4 (uv_X F A))
    (h3 : ss_nm x → ss_l (S n) x ≠ 0 → n < mw → ss_Q (S n) < 6 → ss_C (S n) (ss_f (S n)) < ss_l (S n) x →
      post 0 (uv_X (uv_st F 28 (nI (n + 1))) (uv_st (uv_st (uv_st (uv_st (uv_st A 0 (upd (A 0) n 1)) 1 (upd (A 1) n (nI (ss_L (S n) + ss_Q (S n))))) 2 (upd (A 2) n (nI (ss_l (S n) x - 1 - ss_C (S n) (ss_f (S n)))))) 3 (upd (A 3) n 0)) 9 (upd (A 9) (ss_fd (ss_K (S n)) (ss_O (S n))) (nI (ss_Q (S n) + 1))))))
    (h4 : ∀ m0 ps', m0 < 8 → x = nI m0 → ss_l (S n) x ≠ 0 → n < mw → ss_Q (S n) < 6 → ss_l (S n) x ≤ ss_C (S n) (ss_f (S n)) → xw_cz k S n m0 ((A 5)) ps' →
      post 0 (uv_X (uv_st F 28 (nI (n + 1))) (uv_st (uv_st (uv_st (uv_st (uv_st (uv_st A 5 (ps')) 0 (upd (A 0) n 2)) 1 (upd (A 1) n (nI (ss_L (S n) + ss_Q (S n))))) 2 (upd (A 2) n x)) 3 (upd (A 3) n 0)) 9 (upd (A 9) (ss_fd (ss_K (S n)) (ss_O (S n))) (nI (ss_Q (S n) + 1)))))) :
    wpX_get post (uv_X F A) x := by
  have hI := ss_I_S hS n (Nat.le_refl _)
  have hV := ss_V88 hI
  have hlV : ss_l (S n) x ≤ ss_V (S n) := ss_ls_le _ _ _
  have hO := hI.1
  have hfO := ss_fd_le (ss_K (S n)) (ss_O (S n))
  unfold wpX_get uv_X
  refine xb_name (F := F) (A := A) (fun hn => br_t rfl (h0 hn)) (fun hn => br_f (by decide) ?_)
  refine xw_find (F := F) (A := A) hI hx.2.2.2.1 (fun j hj => (hx.2.2.2.2.2.2 j hj).1) ?_
  by_cases hl : ss_l (S n) x = 0
  · refine br_f ?_ (h1 hn hl)
    rw [hl]; decide
  have el : nI (ss_l (S n) x) - 1 = nI (ss_l (S n) x - 1) := by
    obtain ⟨q, hq⟩ : ∃ q, ss_l (S n) x = q + 1 := ⟨ss_l (S n) x - 1, by omega⟩
    rw [hq, nI_pred, Nat.add_sub_cancel]
  rw [el]
  refine br_t (nI_pos' (by omega)) ?_
  refine xb_full (F := F) (A := A) hK (fun hlt => br_t rfl ⟨xb_in hK, ?_⟩) (fun hge => br_f (by decide) (h2 hn hl (Or.inl hge)))
  rw [xb_cl hK, xb_q hK]
  refine pk_lt (ss_Q (S n)) 6 (fun h6 => ?_) (fun h6 => h2 hn hl (Or.inr h6)) rfl rfl (by have := ss_Q6 hI; omega) (by omega)
  refine xb_next (F := F) (A := A) hK ⟨vp_in_nI (by omega) (by omega), ?_⟩
  have i2 : (nI (ss_l (S n) x - 1)).toNatClampNeg = ss_l (S n) x - 1 := nI_clamp (by omega)
  have v2 := (hx.2.2.2.2.2.2 (ss_l (S n) x - 1) (by omega)).2
  have own := xw_own hS hl hlV
  have how := ss_ow_le (ss_K (S n)) (ss_C (S n)) (ss_l (S n) x - 1) (ss_O (S n))
  rw [i2, v2]
  have top := (xc_top hx).2
  refine br_c (fun e => ⟨xb_in hK, ?_⟩) (fun e => ?_)
  · rw [hx.2.2.1, nI_eq (by omega) (by omega), own] at e
    rw [top, pk_sub (by omega)]
    refine xb_add (F := F) (A := A) hK hlt ?_
    show vp_in ((F 31)) 11 ∧ vp_in ((F 31)) 11 ∧ ∀ a, a = upd (A 9) ((F 31)).toNatClampNeg ((A 9) ((F 31)).toNatClampNeg + 1) →
      post 0 (uv_X (uv_st F 28 (nI (n + 1))) (uv_st (uv_st (uv_st (uv_st (uv_st A 0 (upd (A 0) n 1)) 1 (upd (A 1) n (nI (ss_L (S n) + ss_Q (S n))))) 2 (upd (A 2) n (nI (ss_l (S n) x - 1 - ss_C (S n) (ss_f (S n)))))) 3 (upd (A 3) n 0)) 9 (a)))
    refine ⟨xb_in hK, xb_in hK, nm_e ?_⟩
    rw [xb_cl hK, xb_q hK, nI_1]
    exact h3 hn hl hlt h6 e
  · rw [hx.2.2.1, nI_eq (by omega) (by omega), own] at e
    obtain ⟨m0, hm0, rfl⟩ := hn
    refine xw_capture (F := F) (A := A) hS hm0 hl hx (fun ps' hps => ?_)
    refine xb_add (F := F) (A := (uv_st A 5 (ps'))) hK hlt ?_
    show vp_in ((F 31)) 11 ∧ vp_in ((F 31)) 11 ∧ ∀ a, a = upd (A 9) ((F 31)).toNatClampNeg ((A 9) ((F 31)).toNatClampNeg + 1) →
      post 0 (uv_X (uv_st F 28 (nI (n + 1))) (uv_st (uv_st (uv_st (uv_st (uv_st (uv_st A 5 (ps')) 0 (upd (A 0) n 2)) 1 (upd (A 1) n (nI (ss_L (S n) + ss_Q (S n))))) 2 (upd (A 2) n (nI m0))) 3 (upd (A 3) n 0)) 9 (a)))
    refine ⟨xb_in hK, xb_in hK, nm_e ?_⟩
    rw [xb_cl hK, xb_q hK, nI_1]
    exact h4 m0 ps' hm0 rfl hl hlt h6 (by omega) hps
theorem xm_assign {post : Int32 → SX → Prop} {x : Int32} (hS : ss_S k a n S)
    (hx : xc_S S n (F 29) (F 30) (F 31) (F 32) (A 6) (A 7) (A 8) (A 9) (A 10) (A 11) (A 12) (A 13))
    (hK : xb_K F A n mw (ss_fd (ss_K (S n)) (ss_O (S n))) (ss_Q (S n)) (ss_C (S n) (ss_f (S n))) (ss_V (S n)))
    (h0 : ¬ ss_nm x → post 1 (uv_X F A)) (hq : ss_nm x → ss_Q (S n) ≠ 1 → post 2 (uv_X F A)) (h1 : ss_nm x → ss_Q (S n) = 1 → ss_l (S n) x = 0 → post 3 (uv_X F A)) (h2 : ss_nm x → ss_Q (S n) = 1 → ss_l (S n) x ≠ 0 → mw ≤ n → post 4 (uv_X F A))
    (h3 : ss_nm x → ss_Q (S n) = 1 → ss_l (S n) x ≠ 0 → n < mw → ss_C (S n) (ss_f (S n)) < ss_l (S n) x →
      post 0 (uv_X (uv_st F 28 (nI (n + 1))) (uv_st (uv_st (uv_st (uv_st (uv_st A 0 (upd (A 0) n 7)) 1 (upd (A 1) n (nI (ss_L (S n))))) 2 (upd (A 2) n (nI (ss_l (S n) x - 1 - ss_C (S n) (ss_f (S n)))))) 3 (upd (A 3) n 0)) 9 (upd (A 9) (ss_fd (ss_K (S n)) (ss_O (S n))) 0))))
    (h4 : ∀ m0 ps', m0 < 8 → x = nI m0 → ss_Q (S n) = 1 → ss_l (S n) x ≠ 0 → n < mw → ss_l (S n) x ≤ ss_C (S n) (ss_f (S n)) → xw_cz k S n m0 ((A 5)) ps' →
      post 0 (uv_X (uv_st F 28 (nI (n + 1))) (uv_st (uv_st (uv_st (uv_st (uv_st (uv_st A 5 (ps')) 0 (upd (A 0) n 8)) 1 (upd (A 1) n (nI (ss_L (S n))))) 2 (upd (A 2) n x)) 3 (upd (A 3) n 0)) 9 (upd (A 9) (ss_fd (ss_K (S n)) (ss_O (S n))) 0)))) :
    wpX_assign post (uv_X F A) x := by
  have hI := ss_I_S hS n (Nat.le_refl _)
  have hV := ss_V88 hI
  have hlV : ss_l (S n) x ≤ ss_V (S n) := ss_ls_le _ _ _
  have hO := hI.1
  have hfO := ss_fd_le (ss_K (S n)) (ss_O (S n))
  unfold wpX_assign uv_X
  refine xb_name (F := F) (A := A) (fun hn => br_t rfl (h0 hn)) (fun hn => br_f (by decide) ⟨xb_in hK, ?_⟩)
  rw [xb_cl hK, xb_q hK]
  refine pk_eq (ss_Q (S n)) 1 (fun hq1 => ?_) (fun hq1 => hq hn hq1) rfl rfl (by have := ss_Q6 hI; omega) (by omega)
  refine xw_find (F := F) (A := A) hI hx.2.2.2.1 (fun j hj => (hx.2.2.2.2.2.2 j hj).1) ?_
  by_cases hl : ss_l (S n) x = 0
  · refine br_f ?_ (h1 hn hq1 hl)
    rw [hl]; decide
  have el : nI (ss_l (S n) x) - 1 = nI (ss_l (S n) x - 1) := by
    obtain ⟨q, hq⟩ : ∃ q, ss_l (S n) x = q + 1 := ⟨ss_l (S n) x - 1, by omega⟩
    rw [hq, nI_pred, Nat.add_sub_cancel]
  rw [el]
  refine br_t (nI_pos' (by omega)) ?_
  refine xb_full (F := F) (A := A) hK (fun hlt => br_t rfl ?_) (fun hge => br_f (by decide) (h2 hn hq1 hl hge))
  refine xb_live (F := F) (A := A) hK ⟨vp_in_nI (by omega) (by omega), ?_⟩
  have i2 : (nI (ss_l (S n) x - 1)).toNatClampNeg = ss_l (S n) x - 1 := nI_clamp (by omega)
  have v2 := (hx.2.2.2.2.2.2 (ss_l (S n) x - 1) (by omega)).2
  have own := xw_own hS hl hlV
  have how := ss_ow_le (ss_K (S n)) (ss_C (S n)) (ss_l (S n) x - 1) (ss_O (S n))
  rw [i2, v2]
  have top := (xc_top hx).2
  refine br_c (fun e => ⟨xb_in hK, ?_⟩) (fun e => ?_)
  · rw [hx.2.2.1, nI_eq (by omega) (by omega), own] at e
    rw [top, pk_sub (by omega)]
    refine xb_add (F := F) (A := A) hK hlt ?_
    show vp_in ((F 31)) 11 ∧ ∀ a, a = upd (A 9) ((F 31)).toNatClampNeg 0 →
      post 0 (uv_X (uv_st F 28 (nI (n + 1))) (uv_st (uv_st (uv_st (uv_st (uv_st A 0 (upd (A 0) n 7)) 1 (upd (A 1) n (nI (ss_L (S n))))) 2 (upd (A 2) n (nI (ss_l (S n) x - 1 - ss_C (S n) (ss_f (S n)))))) 3 (upd (A 3) n 0)) 9 (a)))
    refine ⟨xb_in hK, nm_e ?_⟩
    rw [xb_cl hK]
    exact h3 hn hq1 hl hlt e
  · rw [hx.2.2.1, nI_eq (by omega) (by omega), own] at e
    obtain ⟨m0, hm0, rfl⟩ := hn
    refine xw_capture (F := F) (A := A) hS hm0 hl hx (fun ps' hps => ?_)
    refine xb_add (F := F) (A := (uv_st A 5 (ps'))) hK hlt ?_
    show vp_in ((F 31)) 11 ∧ ∀ a, a = upd (A 9) ((F 31)).toNatClampNeg 0 →
      post 0 (uv_X (uv_st F 28 (nI (n + 1))) (uv_st (uv_st (uv_st (uv_st (uv_st (uv_st A 5 (ps')) 0 (upd (A 0) n 8)) 1 (upd (A 1) n (nI (ss_L (S n))))) 2 (upd (A 2) n (nI m0))) 3 (upd (A 3) n 0)) 9 (a)))
    refine ⟨xb_in hK, nm_e ?_⟩
    rw [xb_cl hK]
    exact h4 m0 ps' hm0 rfl hq1 hl hlt (by omega) hps
end
end
section
/-! the component's calls that open and close -/
section
variable {F : Nat → Int32} {A : Nat → Nat → Int32} {n mw d q c0 V o fc : Nat} {x : Int32}
theorem xw_fun_lp {post : Int32 → SX → Prop} (hd : (F 31) = nI d) (hd10 : d < 10) (hv : (F 32) = nI V) (hV : V < 88) (hfc : fc < 16) (ps0 : Nat → Int32) :
    ∀ (e i fuel : Nat) (A : Nat → Nat → Int32), i + e = 8 → e < fuel →
    (∀ j, (fc * 8 ≤ j ∧ j < fc * 8 + i → (A 5) j = -2) ∧ (j < fc * 8 → (A 5) j = ps0 j)) →
    (∀ ps', (∀ j, (fc * 8 ≤ j ∧ j < fc * 8 + 8 → ps' j = -2) ∧ (j < fc * 8 → ps' j = ps0 j)) →
      post 0 (uv_X (uv_st (uv_st F 31 (nI (d + 1))) 32 (nI (V + 1))) (uv_st (uv_st (uv_st (uv_st (uv_st (uv_st A 5 (ps')) 9 (upd (A 9) (d + 1) 0)) 10 (upd (A 10) (d + 1) ((F 32)))) 11 (upd (A 11) (d + 1) (nI fc))) 12 (upd (A 12) V x)) 13 (upd (A 13) V (nI (d + 1)))))) →
    wX_function_97 post x (nI fc) (F 0) (F 1) (F 2) (F 3) (F 4) (F 5) (F 6) (F 7) (F 8) (F 9) (F 10) (F 11) (F 12) (F 13) (F 14) (F 15) (F 16) (F 17) (F 18) (F 19) (F 20) (F 21) (F 22) (F 23) (F 24) (F 25) (F 26) (F 27) (F 28) (F 29) (F 30) (F 31) (F 32) (F 33) (F 34) (F 35) (F 36) (F 37) (F 38) (F 39) (F 40) (F 41) (F 42) (F 43) (F 44) fuel (nI i) (A 0) (A 1) (A 2) (A 3) (A 4) (A 5) (A 6) (A 7) (A 8) (A 9) (A 10) (A 11) (A 12) (A 13) (A 14) (A 15) (A 16) (A 17) (A 18) (A 19) (A 20) (A 21) (A 22) (A 23) (A 24) (A 25) (A 26) := by
  intro e
  induction e with
  | zero =>
    intro i fuel A hi hf hps hp
    obtain ⟨m, rfl⟩ : ∃ m, fuel = m + 1 := ⟨fuel - 1, by omega⟩
    have e8 : i = 8 := by omega
    have i1 : (8 : Int32) ≤ nI i := nI_le (a := 8) (by omega) (by omega)
    have i2 : (F 31) + 1 = nI (d + 1) := by rw [hd]; exact nI_1 d
    have i3 : vp_in (nI (d + 1)) 11 := vp_in_nI (by omega) (by omega)
    have i4 : (nI (d + 1)).toNatClampNeg = d + 1 := nI_clamp (by omega)
    rw [wX_function_97]
    refine br_t i1 (nm_r i2 ⟨i3, nm_e ⟨i3, nm_e ⟨i3, nm_e ?_⟩⟩⟩)
    rw [i4]
    refine xb_addVar (F := (uv_st F 31 (nI (d + 1)))) (A := (uv_st (uv_st (uv_st A 9 (upd (A 9) (d + 1) 0)) 10 (upd (A 10) (d + 1) ((F 32)))) 11 (upd (A 11) (d + 1) (nI fc)))) (V := V) hv hV ?_
    rw [e8] at hps
    exact hp ((A 5)) hps
  | succ e ih =>
    intro i fuel A hi hf hps hp
    obtain ⟨m, rfl⟩ : ∃ m, fuel = m + 1 := ⟨fuel - 1, by omega⟩
    have i1 : ¬ (8 : Int32) ≤ nI i := nI_ge (b := 8) (by omega) (by omega)
    have i5 := uv_8 fc i
    have i6 : vp_in (nI (fc * 8 + i)) 128 := vp_in_nI (by omega) (by omega)
    have i7 : (nI (fc * 8 + i)).toNatClampNeg = fc * 8 + i := nI_clamp (by omega)
    have K := ih (i + 1) m (uv_st A 5 (upd (A 5) (fc * 8 + i) (-2))) (by omega) (by omega) (fun j => by
      show (fc * 8 ≤ j ∧ j < fc * 8 + (i + 1) → upd ((A 5)) (fc * 8 + i) (-2) j = -2) ∧ (j < fc * 8 → upd ((A 5)) (fc * 8 + i) (-2) j = ps0 j)
      by_cases c : j = fc * 8 + i
      · rw [c, pk_us]; exact ⟨fun _ => rfl, fun z => by omega⟩
      · rw [pk_un c]; exact ⟨fun z => (hps j).1 ⟨z.1, by omega⟩, (hps j).2⟩) (fun ps' hps' => hp ps' hps')
    rw [wX_function_97]
    refine br_f i1 ?_
    rw [i5, i7]
    exact ⟨i6, nm_e (nm_r (nI_1 i) K)⟩
theorem xm_function {post : Int32 → SX → Prop} (hK : xb_K F A n mw d q c0 V) (ho : (F 30) = nI o) (ho10 : o ≤ 10) (hfc : (F 29) = nI fc) (hfc16 : fc ≤ 16) (hdo : o < 10 → d < 10) (h88 : o < 10 → V < 88)
    (h0 : ¬ ss_nm x → post 1 (uv_X F A)) (h1 : ss_nm x → (mw ≤ n ∨ 6 ≤ q ∨ 10 ≤ o ∨ 16 ≤ fc) → post 4 (uv_X F A))
    (h2 : ∀ ps', ss_nm x → n < mw → q < 6 → o < 10 → fc < 16 → (∀ j, (fc * 8 ≤ j ∧ j < fc * 8 + 8 → ps' j = -2) ∧ (j < fc * 8 → ps' j = (A 5) j)) →
      post 0 (uv_X (uv_st (uv_st (uv_st (uv_st (uv_st F 29 (nI (fc + 1))) 30 (nI (o + 1))) 28 (nI (n + 1))) 31 (nI (d + 1))) 32 (nI (V + 1)))
        (uv_st (uv_st (uv_st (uv_st (uv_st (uv_st (uv_st (uv_st (uv_st (uv_st (uv_st (uv_st (uv_st (uv_st A 6 (upd (A 6) o 5)) 7 (upd (A 7) o ((F 28)))) 8 (upd (A 8) o ((F 32)))) 0 (upd (A 0) n 5)) 1 (upd (A 1) n (nI (V - c0 + q)))) 2 (upd (A 2) n ((F 29)))) 3 (upd (A 3) n 0)) 4 (upd (A 4) fc (nI (n + 1)))) 5 (ps')) 9 (upd (A 9) (d + 1) 0)) 10 (upd (A 10) (d + 1) ((F 32)))) 11 (upd (A 11) (d + 1) (nI fc))) 12 (upd (A 12) V x)) 13 (upd (A 13) V (nI (d + 1)))))) :
    wpX_function post (uv_X F A) x := by
  unfold wpX_function uv_X
  refine xb_name (F := F) (A := A) (fun hn => br_t rfl (h0 hn)) (fun hn => br_f (by decide) ?_)
  refine xb_full (F := F) (A := A) hK (fun hlt => br_t rfl ⟨xb_in hK, ?_⟩) (fun hge => br_f (by decide) (h1 hn (Or.inl hge)))
  rw [xb_cl hK, xb_q hK]
  refine pk_le 6 q (fun h6 => h1 hn (Or.inr (Or.inl h6))) (fun h6 => ?_) rfl rfl (by omega) (by have := hK.2.2.2.2.2.2.2.1; omega)
  refine pk_le 10 o (fun h10 => h1 hn (Or.inr (Or.inr (Or.inl h10)))) (fun h10 => ?_) rfl ho (by omega) (by omega)
  refine pk_lt fc 16 (fun h16 => ?_) (fun h16 => h1 hn (Or.inr (Or.inr (Or.inr h16)))) hfc rfl (by omega) (by omega)
  refine nm_r (e' := nI (fc + 1)) (by rw [hfc]; exact nI_1 fc) ?_
  refine xb_next (F := (uv_st F 29 (nI (fc + 1)))) (A := A) hK ?_
  refine xb_open (F := (uv_st F 29 (nI (fc + 1)))) (A := A) (o := o) ho h10 ?_
  refine xw_addWord (F := (uv_st (uv_st F 29 (nI (fc + 1))) 30 (nI (o + 1)))) (A := (uv_st (uv_st (uv_st A 6 (upd (A 6) o 5)) 7 (upd (A 7) o ((F 28)))) 8 (upd (A 8) o ((F 32))))) (n := n) hK.1 (by have := hK.2.2.2.1; omega) ?_
  have i1 : vp_in ((F 29)) 16 := by rw [hfc]; exact vp_in_nI h16 (by omega)
  have i2 : ((F 29)).toNatClampNeg = fc := by rw [hfc]; exact nI_clamp (by omega)
  have K := xw_fun_lp (post := post) (x := x) (d := d) (V := V) (fc := fc) (F := (uv_st (uv_st (uv_st F 29 (nI (fc + 1))) 30 (nI (o + 1))) 28 (nI (n + 1)))) hK.2.2.2.2.1 (hdo h10) hK.2.2.2.2.2.2.2.2.2.1 (h88 h10) h16 (A 5) 8 0 9
    (uv_st (uv_st (uv_st (uv_st (uv_st (uv_st (uv_st (uv_st A 6 (upd (A 6) o 5)) 7 (upd (A 7) o ((F 28)))) 8 (upd (A 8) o ((F 32)))) 0 (upd (A 0) n 5)) 1 (upd (A 1) n (nI (V - c0 + q)))) 2 (upd (A 2) n ((F 29)))) 3 (upd (A 3) n 0)) 4 (upd (A 4) fc (nI (n + 1))))
    (by omega) (by omega) (fun j => ⟨fun z => by omega, fun _ => rfl⟩) (fun ps' hps => h2 ps' hn hlt h6 h10 h16 hps)
  refine ⟨i1, nm_e ?_⟩
  rw [i2]
  rw [← hfc] at K
  exact ⟨9, K⟩
theorem xm_block_86 {post : Int32 → SX → Prop} {z : Int32} (hK : xb_K F A n mw d q c0 V) (hlt : n < mw) (ho : (F 30) = nI o) (ho10 : o < 10)
    (h : post 0 (uv_X (uv_st (uv_st F 30 (nI (o + 1))) 28 (nI (n + 1))) (uv_st (uv_st (uv_st (uv_st (uv_st (uv_st (uv_st (uv_st A 6 (upd (A 6) o x)) 7 (upd (A 7) o ((F 28)))) 8 (upd (A 8) o ((F 32)))) 0 (upd (A 0) n z)) 1 (upd (A 1) n (nI (V - c0)))) 2 (upd (A 2) n 0)) 3 (upd (A 3) n 0)) 9 (upd (A 9) d 0)))) :
    wX_block_86 post x (nI (V - c0)) z (F 0) (F 1) (F 2) (F 3) (F 4) (F 5) (F 6) (F 7) (F 8) (F 9) (F 10) (F 11) (F 12) (F 13) (F 14) (F 15) (F 16) (F 17) (F 18) (F 19) (F 20) (F 21) (F 22) (F 23) (F 24) (F 25) (F 26) (F 27) (F 28) (F 29) (F 30) (F 31) (F 32) (F 33) (F 34) (F 35) (F 36) (F 37) (F 38) (F 39) (F 40) (F 41) (F 42) (F 43) (F 44) (A 0) (A 1) (A 2) (A 3) (A 4) (A 5) (A 6) (A 7) (A 8) (A 9) (A 10) (A 11) (A 12) (A 13) (A 14) (A 15) (A 16) (A 17) (A 18) (A 19) (A 20) (A 21) (A 22) (A 23) (A 24) (A 25) (A 26) := by
  unfold wX_block_86
  refine xb_open (F := F) (A := A) (o := o) ho ho10 ?_
  refine xw_addWord (F := (uv_st F 30 (nI (o + 1)))) (A := (uv_st (uv_st (uv_st A 6 (upd (A 6) o x)) 7 (upd (A 7) o ((F 28)))) 8 (upd (A 8) o ((F 32))))) (n := n) hK.1 (by have := hK.2.2.2.1; omega) ?_
  show vp_in ((F 31)) 11 ∧ ∀ a, a = upd (A 9) ((F 31)).toNatClampNeg 0 → post 0 (uv_X (uv_st (uv_st F 30 (nI (o + 1))) 28 (nI (n + 1))) (uv_st (uv_st (uv_st (uv_st (uv_st (uv_st (uv_st (uv_st A 6 (upd (A 6) o x)) 7 (upd (A 7) o ((F 28)))) 8 (upd (A 8) o ((F 32)))) 0 (upd (A 0) n z)) 1 (upd (A 1) n (nI (V - c0)))) 2 (upd (A 2) n 0)) 3 (upd (A 3) n 0)) 9 (a)))
  refine ⟨xb_in hK, nm_e ?_⟩
  rw [xb_cl hK]
  exact h
theorem xm_block_22 {post : Int32 → SX → Prop} {wq : Nat} (hwq : wq ≤ 1) (hK : xb_K F A n mw d q c0 V) (ho : (F 30) = nI o) (ho10 : o ≤ 10)
    (h1 : q ≠ wq → post 2 (uv_X F A)) (h2 : q = wq → (mw ≤ n ∨ 10 ≤ o) → post 4 (uv_X F A))
    (h3 : q = wq → n < mw → o < 10 → post 0 (uv_X (uv_st (uv_st F 30 (nI (o + 1))) 28 (nI (n + 1))) (uv_st (uv_st (uv_st (uv_st (uv_st (uv_st (uv_st (uv_st A 6 (upd (A 6) o x)) 7 (upd (A 7) o ((F 28)))) 8 (upd (A 8) o ((F 32)))) 0 (upd (A 0) n (if x = 2 then 15 else if x = 3 then 16 else 14))) 1 (upd (A 1) n (nI (V - c0)))) 2 (upd (A 2) n 0)) 3 (upd (A 3) n 0)) 9 (upd (A 9) d 0)))) :
    wX_block_22 post x (nI wq) (F 0) (F 1) (F 2) (F 3) (F 4) (F 5) (F 6) (F 7) (F 8) (F 9) (F 10) (F 11) (F 12) (F 13) (F 14) (F 15) (F 16) (F 17) (F 18) (F 19) (F 20) (F 21) (F 22) (F 23) (F 24) (F 25) (F 26) (F 27) (F 28) (F 29) (F 30) (F 31) (F 32) (F 33) (F 34) (F 35) (F 36) (F 37) (F 38) (F 39) (F 40) (F 41) (F 42) (F 43) (F 44) (A 0) (A 1) (A 2) (A 3) (A 4) (A 5) (A 6) (A 7) (A 8) (A 9) (A 10) (A 11) (A 12) (A 13) (A 14) (A 15) (A 16) (A 17) (A 18) (A 19) (A 20) (A 21) (A 22) (A 23) (A 24) (A 25) (A 26) := by
  unfold wX_block_22
  refine ⟨xb_in hK, ?_⟩
  rw [xb_cl hK, xb_q hK]
  refine pk_eq q wq (fun hq => ?_) (fun hq => h1 hq) rfl rfl (by have := hK.2.2.2.2.2.2.2.1; omega) (by omega)
  refine xb_full (F := F) (A := A) hK (fun hlt => br_t rfl ?_) (fun hge => br_f (by decide) (h2 hq (Or.inl hge)))
  refine pk_lt o 10 (fun h10 => ?_) (fun h10 => h2 hq (Or.inr h10)) ho rfl (by omega) (by omega)
  have h3' := h3 hq hlt h10
  refine xb_live (F := F) (A := A) hK ?_
  refine br_c (fun e2 => ?_) (fun e2 => br_c (fun e3 => ?_) (fun e3 => ?_))
  · rw [if_pos e2] at h3'
    exact xm_block_86 hK hlt ho h10 h3'
  · rw [if_neg e2, if_pos e3] at h3'
    exact xm_block_86 hK hlt ho h10 h3'
  · rw [if_neg e2, if_neg e3] at h3'
    exact xm_block_86 hK hlt ho h10 h3'
theorem xm_block {post : Int32 → SX → Prop} (hK : xb_K F A n mw d q c0 V) (ho : (F 30) = nI o) (ho10 : o ≤ 10)
    (h0 : ¬ (x = 1 ∨ x = 2 ∨ x = 3) → post 1 (uv_X F A)) (h1 : (x = 1 ∨ x = 2 ∨ x = 3) → q ≠ (if x = 2 then 1 else 0) → post 2 (uv_X F A)) (h2 : (x = 1 ∨ x = 2 ∨ x = 3) → q = (if x = 2 then 1 else 0) → (mw ≤ n ∨ 10 ≤ o) → post 4 (uv_X F A))
    (h3 : (x = 1 ∨ x = 2 ∨ x = 3) → q = (if x = 2 then 1 else 0) → n < mw → o < 10 → post 0 (uv_X (uv_st (uv_st F 30 (nI (o + 1))) 28 (nI (n + 1))) (uv_st (uv_st (uv_st (uv_st (uv_st (uv_st (uv_st (uv_st A 6 (upd (A 6) o x)) 7 (upd (A 7) o ((F 28)))) 8 (upd (A 8) o ((F 32)))) 0 (upd (A 0) n (if x = 2 then 15 else if x = 3 then 16 else 14))) 1 (upd (A 1) n (nI (V - c0)))) 2 (upd (A 2) n 0)) 3 (upd (A 3) n 0)) 9 (upd (A 9) d 0)))) :
    wpX_block post (uv_X F A) x := by
  have k3 : ¬ x < 1 → x ≤ 3 → (x = 1 ∨ x = 2 ∨ x = 3) := by
    intro a b
    have h1 : (1 : Int32).toInt = 1 := by decide
    have h3 : (3 : Int32).toInt = 3 := by decide
    rw [Int32.lt_iff_toInt_lt, h1] at a
    rw [Int32.le_iff_toInt_le, h3] at b
    have e : x.toInt = 1 ∨ x.toInt = 2 ∨ x.toInt = 3 := by omega
    rcases e with e | e | e
    · exact Or.inl (Int32.toInt_inj.mp (by rw [e]; decide))
    · exact Or.inr (Or.inl (Int32.toInt_inj.mp (by rw [e]; decide)))
    · exact Or.inr (Or.inr (Int32.toInt_inj.mp (by rw [e]; decide)))
  unfold wpX_block uv_X
  refine br_c (fun c => h0 ?_) (fun c => br_c (fun c3 => br_c (fun e2 => ?_) (fun e2 => ?_)) (fun c3 => h0 ?_))
  · rintro (z | z | z) <;> rw [z] at c <;> exact absurd c (by decide)
  · have k := k3 c c3
    exact xm_block_22 (wq := 1) (by omega) hK ho ho10 (fun z => h1 k (by rw [if_pos e2]; exact z)) (fun z => h2 k (by rw [if_pos e2]; exact z)) (fun z => h3 k (by rw [if_pos e2]; exact z))
  · have k := k3 c c3
    exact xm_block_22 (wq := 0) (by omega) hK ho ho10 (fun z => h1 k (by rw [if_neg e2]; exact z)) (fun z => h2 k (by rw [if_neg e2]; exact z)) (fun z => h3 k (by rw [if_neg e2]; exact z))
  · rintro (z | z | z) <;> rw [z] at c3 <;> exact absurd (by decide) c3
theorem xm_otherwise {post : Int32 → SX → Prop} {w cv : Nat} (hK : xb_K F A n mw d q c0 V) (ho : (F 30) = nI o) (ho10 : o ≤ 10) (hw : 1 ≤ o → (A 7) (o - 1) = nI w) (hw2 : 1 ≤ o → w < n) (hcv : 1 ≤ o → (A 8) (o - 1) = nI cv) (hcv2 : 1 ≤ o → (A 6) (o - 1) = 2 → c0 ≤ cv)
    (h1 : (o = 0 ∨ (A 6) (o - 1) ≠ 2 ∨ q ≠ 0) → post 2 (uv_X F A)) (h2 : 1 ≤ o → (A 6) (o - 1) = 2 → q = 0 → mw ≤ n → post 4 (uv_X F A))
    (h3 : 1 ≤ o → (A 6) (o - 1) = 2 → q = 0 → n < mw → post 0 (uv_X (uv_st (uv_st F 28 (nI (n + 1))) 32 (nI cv)) (uv_st (uv_st (uv_st (uv_st (uv_st (uv_st A 0 (upd (A 0) n 17)) 1 (upd (A 1) n 0)) 2 (upd (A 2) n (nI (cv - c0)))) 3 (upd (upd (A 3) n 0) w (nI (n + 1)))) 7 (upd (A 7) (o - 1) (nI n))) 6 (upd (A 6) (o - 1) 4)))) :
    wpX_otherwise post (uv_X F A) := by
  unfold wpX_otherwise uv_X
  have step : ∀ {p : Int32 → Prop}, (o = 0 → p 0) → (1 ≤ o → p ((A 6) (o - 1))) → wpX_innerKind p (uv_X F A) := by
    intro p p0 p1
    unfold wpX_innerKind uv_X
    refine pk_eq o 0 (fun z => p0 z) (fun z => ?_) ho rfl (by omega) (by omega)
    have e : (F 30) - 1 = nI (o - 1) := by rw [ho]; exact pk_sub (b := 1) (by omega)
    rw [e, nI_clamp (by omega)]
    exact ⟨vp_in_nI (by omega) (by omega), p1 (by omega)⟩
  refine step (fun z => br_f (by decide) (h1 (Or.inl z))) (fun h1o => br_c (fun hk => ⟨xb_in hK, ?_⟩) (fun hk => h1 (Or.inr (Or.inl hk))))
  rw [xb_cl hK, xb_q hK]
  refine pk_eq q 0 (fun hq => ?_) (fun hq => h1 (Or.inr (Or.inr hq))) rfl rfl (by have := hK.2.2.2.2.2.2.2.1; omega) (by omega)
  refine xb_full (F := F) (A := A) hK (fun hlt => br_t rfl ?_) (fun hge => br_f (by decide) (h2 h1o hk hq hge))
  have e : (F 30) - 1 = nI (o - 1) := by rw [ho]; exact pk_sub (b := 1) (by omega)
  have i1 : vp_in (nI (o - 1)) 10 := vp_in_nI (by omega) (by omega)
  have i2 : (nI (o - 1)).toNatClampNeg = o - 1 := nI_clamp (by omega)
  have n96 := hK.2.2.2.1
  refine nm_r e ⟨i1, xb_in hK, ?_⟩
  rw [i2, hcv h1o, hK.2.2.2.2.2.2.2.2.1, pk_sub (hcv2 h1o hk)]
  refine nm_e ?_
  refine xb_add (F := F) (A := A) hK hlt ?_
  have j1 : vp_in ((A 7) (o - 1)) 96 := by rw [hw h1o]; exact vp_in_nI (by have := hw2 h1o; omega) (by omega)
  have j2 : ((A 7) (o - 1)).toNatClampNeg = w := by rw [hw h1o]; exact nI_clamp (by have := hw2 h1o; omega)
  have j3 : nI (n + 1) - 1 = nI n := nI_pred n
  show vp_in (nI (o - 1)) 10 ∧ vp_in ((A 7) (o - 1)) 96 ∧ ∀ t, t = upd (upd (A 3) n 0) ((A 7) (o - 1)).toNatClampNeg (nI (n + 1)) → (vp_in (nI (o - 1)) 10 ∧ ∀ ow, ow = upd (A 7) (o - 1) (nI (n + 1) - 1) → (vp_in (nI (o - 1)) 10 ∧ ∀ ok, ok = upd (A 6) (o - 1) 4 → (vp_in (nI (o - 1)) 10 ∧ ∀ vc, vc = (A 8) (o - 1) →
    post 0 (uv_X (uv_st (uv_st F 28 (nI (n + 1))) 32 (vc)) (uv_st (uv_st (uv_st (uv_st (uv_st (uv_st A 0 (upd (A 0) n 17)) 1 (upd (A 1) n 0)) 2 (upd (A 2) n (nI (cv - c0)))) 3 (t)) 7 (ow)) 6 (ok))))))
  rw [j2, j3, hcv h1o]
  exact ⟨i1, j1, nm_e ⟨i1, nm_e ⟨i1, nm_e ⟨i1, nm_e (h3 h1o hk hq hlt)⟩⟩⟩⟩
theorem xm_end_139 {post : Int32 → SX → Prop} {w cv : Nat} (hn : (F 28) = nI (n + 1)) (ho10 : o ≤ 10) (h1o : 1 ≤ o) (hw2 : w < 96) (hcv : (A 8) (o - 1) = nI cv)
    (h : post 0 (uv_X (uv_st (uv_st F 30 (nI (o - 1))) 32 (nI cv)) (uv_st A 3 (upd (A 3) w (nI (n + 1)))))) : wX_end_139 post (nI (o - 1)) (nI w) (F 0) (F 1) (F 2) (F 3) (F 4) (F 5) (F 6) (F 7) (F 8) (F 9) (F 10) (F 11) (F 12) (F 13) (F 14) (F 15) (F 16) (F 17) (F 18) (F 19) (F 20) (F 21) (F 22) (F 23) (F 24) (F 25) (F 26) (F 27) (F 28) (F 29) (F 30) (F 31) (F 32) (F 33) (F 34) (F 35) (F 36) (F 37) (F 38) (F 39) (F 40) (F 41) (F 42) (F 43) (F 44) (A 0) (A 1) (A 2) (A 3) (A 4) (A 5) (A 6) (A 7) (A 8) (A 9) (A 10) (A 11) (A 12) (A 13) (A 14) (A 15) (A 16) (A 17) (A 18) (A 19) (A 20) (A 21) (A 22) (A 23) (A 24) (A 25) (A 26) := by
  have i1 : vp_in (nI (o - 1)) 10 := vp_in_nI (by omega) (by omega)
  have i2 : (nI (o - 1)).toNatClampNeg = o - 1 := nI_clamp (by omega)
  have i3 : vp_in (nI w) 96 := vp_in_nI hw2 (by omega)
  have i4 : (nI w).toNatClampNeg = w := nI_clamp (by omega)
  unfold wX_end_139
  refine ⟨i3, nm_r (e' := upd (A 3) w (nI (n + 1))) (by rw [i4, hn]) ⟨i1, nm_r (e' := nI cv) (by rw [i2, hcv]) h⟩⟩
theorem xm_end {post : Int32 → SX → Prop} {w cv q' : Nat} (hK : xb_K F A n mw d q c0 V) (ho : (F 30) = nI o) (ho10 : o ≤ 10) (hw : 1 ≤ o → (A 7) (o - 1) = nI w) (hw2 : 1 ≤ o → w < n) (hcv : 1 ≤ o → (A 8) (o - 1) = nI cv) (hcv2 : 1 ≤ o → c0 ≤ cv)
    (hd1 : 1 ≤ o → (A 6) (o - 1) = 5 → 1 ≤ d) (hq' : 1 ≤ o → (A 6) (o - 1) = 5 → (A 9) (d - 1) = nI q')
    (h1 : (o = 0 ∨ q ≠ 0) → post 2 (uv_X F A)) (h2 : 1 ≤ o → q = 0 → mw ≤ n → post 4 (uv_X F A))
    (h3 : 1 ≤ o → q = 0 → n < mw → (A 6) (o - 1) = 5 → post 0 (uv_X (uv_st (uv_st (uv_st (uv_st F 28 (nI (n + 1))) 31 (nI (d - 1))) 30 (nI (o - 1))) 32 (nI cv)) (uv_st (uv_st (uv_st (uv_st (uv_st A 0 (upd (A 0) n 20)) 1 (upd (A 1) n 0)) 2 (upd (A 2) n 0)) 3 (upd (upd (A 3) n 0) w (nI (n + 1)))) 9 (upd (A 9) (d - 1) (nI (q' + 1))))))
    (h4 : 1 ≤ o → q = 0 → n < mw → (A 6) (o - 1) = 3 → post 0 (uv_X (uv_st (uv_st (uv_st F 28 (nI (n + 1))) 30 (nI (o - 1))) 32 (nI cv)) (uv_st (uv_st (uv_st (uv_st A 0 (upd (A 0) n 19)) 1 (upd (A 1) n 0)) 2 (upd (A 2) n (nI (cv - c0)))) 3 (upd (upd (A 3) n (nI (w + 1))) w (nI (n + 1))))))
    (h5 : 1 ≤ o → q = 0 → n < mw → (A 6) (o - 1) ≠ 5 → (A 6) (o - 1) ≠ 3 → post 0 (uv_X (uv_st (uv_st (uv_st F 28 (nI (n + 1))) 30 (nI (o - 1))) 32 (nI cv)) (uv_st (uv_st (uv_st (uv_st A 0 (upd (A 0) n 18)) 1 (upd (A 1) n 0)) 2 (upd (A 2) n (nI (cv - c0)))) 3 (upd (upd (A 3) n 0) w (nI (n + 1)))))) :
    wpX_end post (uv_X F A) := by
  unfold wpX_end uv_X
  refine pk_eq o 0 (fun z => h1 (Or.inl z)) (fun z => ⟨xb_in hK, ?_⟩) ho rfl (by omega) (by omega)
  have h1o : 1 ≤ o := by omega
  rw [xb_cl hK, xb_q hK]
  refine pk_eq q 0 (fun hq => ?_) (fun hq => h1 (Or.inr hq)) rfl rfl (by have := hK.2.2.2.2.2.2.2.1; omega) (by omega)
  refine xb_full (F := F) (A := A) hK (fun hlt => br_t rfl ?_) (fun hge => br_f (by decide) (h2 h1o hq hge))
  have e : (F 30) - 1 = nI (o - 1) := by rw [ho]; exact pk_sub (b := 1) (by omega)
  have i1 : vp_in (nI (o - 1)) 10 := vp_in_nI (by omega) (by omega)
  have i2 : (nI (o - 1)).toNatClampNeg = o - 1 := nI_clamp (by omega)
  have n96 := hK.2.2.2.1
  have wn := hw2 h1o
  refine nm_r e ⟨i1, nm_r (e' := (A 6) (o - 1)) (by rw [i2]) ⟨i1, nm_r (e' := nI w) (by rw [i2, hw h1o]) ⟨i1, xb_in hK, ?_⟩⟩⟩
  rw [i2, hcv h1o, hK.2.2.2.2.2.2.2.2.1, pk_sub (hcv2 h1o)]
  refine nm_e (br_c (fun k5 => ?_) (fun k5 => br_c (fun k3 => ?_) (fun k3 => ?_)))
  · refine xb_add (F := F) (A := A) hK hlt ?_
    have hd := hd1 h1o k5
    have hd10 := hK.2.2.2.2.2.1
    have e1 : (F 31) - 1 = nI (d - 1) := by rw [hK.2.2.2.2.1]; exact pk_sub (b := 1) hd
    have j1 : vp_in (nI (d - 1)) 11 := vp_in_nI (by omega) (by omega)
    have j2 : (nI (d - 1)).toNatClampNeg = d - 1 := nI_clamp (by omega)
    refine nm_r (e' := nI (d - 1)) e1 ⟨j1, j1, nm_r (e' := upd (A 9) (d - 1) (nI (q' + 1))) (by rw [j2]; show upd (A 9) (d - 1) ((A 9) (d - 1) + 1) = _; rw [hq' h1o k5, nI_1]) ?_⟩
    exact xm_end_139 (F := (uv_st (uv_st F 28 (nI (n + 1))) 31 (nI (d - 1)))) (A := (uv_st (uv_st (uv_st (uv_st (uv_st A 0 (upd (A 0) n 20)) 1 (upd (A 1) n 0)) 2 (upd (A 2) n 0)) 3 (upd (A 3) n 0)) 9 (upd (A 9) (d - 1) (nI (q' + 1))))) (n := n) rfl ho10 h1o (by omega) (hcv h1o) (h3 h1o hq hlt k5)
  · rw [nI_1]
    refine xb_add (F := F) (A := A) hK hlt ?_
    exact xm_end_139 (F := (uv_st F 28 (nI (n + 1)))) (A := (uv_st (uv_st (uv_st (uv_st A 0 (upd (A 0) n 19)) 1 (upd (A 1) n 0)) 2 (upd (A 2) n (nI (cv - c0)))) 3 (upd (A 3) n (nI (w + 1))))) (n := n) rfl ho10 h1o (by omega) (hcv h1o) (h4 h1o hq hlt k3)
  · refine xb_add (F := F) (A := A) hK hlt ?_
    exact xm_end_139 (F := (uv_st F 28 (nI (n + 1)))) (A := (uv_st (uv_st (uv_st (uv_st A 0 (upd (A 0) n 18)) 1 (upd (A 1) n 0)) 2 (upd (A 2) n (nI (cv - c0)))) 3 (upd (A 3) n 0))) (n := n) rfl ho10 h1o (by omega) (hcv h1o) (h5 h1o hq hlt k5 k3)
/-- innermostLoop -/
theorem xw_inner_lp {s : ss_T} (hO : ss_O s ≤ 10) (hk : ∀ i, i < ss_O s → (A 6) i = ss_K s (i + 1)) : ∀ (j fuel : Nat), j ≤ ss_O s → j < fuel → ∀ post : Int32 → Prop, post (nI (ss_lx (ss_K s) j) - 1) →
    wX_innermostLoop_7 post (F 0) (F 1) (F 2) (F 3) (F 4) (F 5) (F 6) (F 7) (F 8) (F 9) (F 10) (F 11) (F 12) (F 13) (F 14) (F 15) (F 16) (F 17) (F 18) (F 19) (F 20) (F 21) (F 22) (F 23) (F 24) (F 25) (F 26) (F 27) (F 28) (F 29) (F 30) (F 31) (F 32) (F 33) (F 34) (F 35) (F 36) (F 37) (F 38) (F 39) (F 40) (F 41) (F 42) (F 43) (F 44) (A 0) (A 1) (A 2) (A 3) (A 4) (A 5) (A 6) (A 7) (A 8) (A 9) (A 10) (A 11) (A 12) (A 13) (A 14) (A 15) (A 16) (A 17) (A 18) (A 19) (A 20) (A 21) (A 22) (A 23) (A 24) (A 25) (A 26) fuel (nI j - 1) := by
  intro j
  induction j with
  | zero =>
    intro fuel _ hf post hp
    obtain ⟨m, rfl⟩ : ∃ m, fuel = m + 1 := ⟨fuel - 1, by omega⟩
    rw [wX_innermostLoop_7]
    exact br_t (by decide) hp
  | succ j ih =>
    intro fuel hj hf post hp
    obtain ⟨m, rfl⟩ : ∃ m, fuel = m + 1 := ⟨fuel - 1, by omega⟩
    have i1 : ¬ nI j < 0 := nI_pos (by omega)
    have i2 : vp_in (nI j) 10 := vp_in_nI (by omega) (by omega)
    have i3 : (nI j).toNatClampNeg = j := nI_clamp (by omega)
    have i4 : nI j + (-1) = nI j - 1 := by rw [Int32.sub_eq_add_neg]
    have k1 := hk j (by omega)
    have u : ss_lx (ss_K s) (j + 1) = (if ss_K s (j + 1) = 5 then 0 else if ss_K s (j + 1) = 3 then j + 1 else ss_lx (ss_K s) j) := rfl
    rw [nI_pred, wX_innermostLoop_7]
    refine br_f i1 ⟨i2, ?_⟩
    rw [i3, k1]
    by_cases c5 : ss_K s (j + 1) = 5
    · rw [u, if_pos c5] at hp
      exact br_t c5 hp
    · rw [u, if_neg c5] at hp
      refine br_f c5 ⟨i2, ?_⟩
      by_cases c3 : ss_K s (j + 1) = 3
      · rw [if_pos c3, nI_pred] at hp
        exact br_t c3 hp
      · rw [if_neg c3] at hp
        exact br_f c3 (nm_r i4 (ih m (by omega) (by omega) post hp))
end
end
section
/-! act; the reference's building calls -/
section
variable {F : Nat → Int32} {A : Nat → Nat → Int32} {S : Nat → ss_T} {n mw : Nat} {k a : Nat → Int32} {x : Int32}
theorem xm_act_173 {post : Int32 → SX → Prop} {d : Nat} (hd : (F 31) = nI d) (hd10 : d ≤ 10) (h : post 0 (uv_X F (uv_st A 9 (upd (A 9) d 0)))) : wX_act_173 post (F 0) (F 1) (F 2) (F 3) (F 4) (F 5) (F 6) (F 7) (F 8) (F 9) (F 10) (F 11) (F 12) (F 13) (F 14) (F 15) (F 16) (F 17) (F 18) (F 19) (F 20) (F 21) (F 22) (F 23) (F 24) (F 25) (F 26) (F 27) (F 28) (F 29) (F 30) (F 31) (F 32) (F 33) (F 34) (F 35) (F 36) (F 37) (F 38) (F 39) (F 40) (F 41) (F 42) (F 43) (F 44) (A 0) (A 1) (A 2) (A 3) (A 4) (A 5) (A 6) (A 7) (A 8) (A 9) (A 10) (A 11) (A 12) (A 13) (A 14) (A 15) (A 16) (A 17) (A 18) (A 19) (A 20) (A 21) (A 22) (A 23) (A 24) (A 25) (A 26) := by
  have i1 : vp_in ((F 31)) 11 := by rw [hd]; exact vp_in_nI (by omega) (by omega)
  have i2 : ((F 31)).toNatClampNeg = d := by rw [hd]; exact nI_clamp (by omega)
  unfold wX_act_173
  exact ⟨i1, nm_r (e' := upd (A 9) d 0) (by rw [i2]) h⟩
theorem xm_act {post : Int32 → SX → Prop} (hS : ss_S k a n S)
    (hx : xc_S S n (F 29) (F 30) (F 31) (F 32) (A 6) (A 7) (A 8) (A 9) (A 10) (A 11) (A 12) (A 13))
    (hK : xb_K F A n mw (ss_fd (ss_K (S n)) (ss_O (S n))) (ss_Q (S n)) (ss_C (S n) (ss_f (S n))) (ss_V (S n)))
    (h0 : ¬ ss_k5 x → post 1 (uv_X F A)) (h1 : ss_k5 x → ss_Q (S n) ≠ 1 → post 2 (uv_X F A)) (h2 : ss_k5 x → ss_Q (S n) = 1 → (x = 3 ∨ x = 4) → ss_lx (ss_K (S n)) (ss_O (S n)) = 0 → post 2 (uv_X F A))
    (h3 : ss_k5 x → ss_Q (S n) = 1 → ((x = 3 ∨ x = 4) → ss_lx (ss_K (S n)) (ss_O (S n)) ≠ 0) → mw ≤ n → post 4 (uv_X F A))
    (h4 : ss_k5 x → ss_Q (S n) = 1 → n < mw → ¬ (x = 3 ∨ x = 4) → post 0 (uv_X (uv_st F 28 (nI (n + 1))) (uv_st (uv_st (uv_st (uv_st (uv_st A 0 (upd (A 0) n (if x = 1 then 10 else if x = 2 then 11 else 9))) 1 (upd (A 1) n (nI (ss_L (S n))))) 2 (upd (A 2) n 0)) 3 (upd (A 3) n 0)) 9 (upd (A 9) (ss_fd (ss_K (S n)) (ss_O (S n))) 0))))
    (h5 : ss_k5 x → ss_Q (S n) = 1 → n < mw → (x = 3 ∨ x = 4) → ss_lx (ss_K (S n)) (ss_O (S n)) ≠ 0 → post 0 (uv_X (uv_st F 28 (nI (n + 1))) (uv_st (uv_st (uv_st (uv_st (uv_st A 0 (upd (A 0) n (if x = 3 then 12 else 13))) 1 (upd (A 1) n (nI (ss_L (S n))))) 2 (upd (A 2) n (nI (ss_C (S n) (ss_lx (ss_K (S n)) (ss_O (S n))) - ss_C (S n) (ss_f (S n)))))) 3 (upd (A 3) n (nI (ss_W (S n) (ss_lx (ss_K (S n)) (ss_O (S n))))))) 9 (upd (A 9) (ss_fd (ss_K (S n)) (ss_O (S n))) 0)))) :
    wpX_act post (uv_X F A) x := by
  have hI := ss_I_S hS n (Nat.le_refl _)
  have hO := hI.1
  have hfO := ss_fd_le (ss_K (S n)) (ss_O (S n))
  have hlO := ss_lx_le (ss_K (S n)) (ss_O (S n))
  obtain ⟨x1, x2, x3, x4, x5, x6, x7⟩ := hx
  have top := (xc_top ⟨x1, x2, x3, x4, x5, x6, x7⟩).2
  unfold wpX_act uv_X
  refine br_c (fun c => h0 ?_) (fun c => br_c (fun c4 => ⟨xb_in hK, ?_⟩) (fun c4 => h0 ?_))
  · rintro ⟨m, hm, rfl⟩
    exact nI_pos (by omega) c
  · have k5 : ss_k5 x := by
      obtain ⟨j, hj, rfl⟩ := nI_of2 (M := 4) (n := 4) (by decide) c c4
      exact ⟨j, by omega, rfl⟩
    rw [xb_cl hK, xb_q hK]
    refine pk_eq (ss_Q (S n)) 1 (fun hq => ?_) (fun hq => h1 k5 hq) rfl rfl (by have := ss_Q6 hI; omega) (by omega)
    have inner : ∀ p : Int32 → Prop, p (nI (ss_lx (ss_K (S n)) (ss_O (S n))) - 1) → wpX_innermostLoop p (uv_X F A) := by
      intro p hp
      unfold wpX_innermostLoop uv_X
      refine nm_r (e' := nI (ss_O (S n)) - 1) (by rw [x2]) ⟨ss_O (S n) + 1, ?_⟩
      exact xw_inner_lp (F := F) (A := A) hO (fun i hi => (x5 i hi).1) (ss_O (S n)) _ (Nat.le_refl _) (by omega) p hp
    refine inner _ ?_
    -- plain kinds
    have plain : ¬ (x = 3 ∨ x = 4) → wX_act_46 post x (nI (ss_lx (ss_K (S n)) (ss_O (S n))) - 1) 0 (F 0) (F 1) (F 2) (F 3) (F 4) (F 5) (F 6) (F 7) (F 8) (F 9) (F 10) (F 11) (F 12) (F 13) (F 14) (F 15) (F 16) (F 17) (F 18) (F 19) (F 20) (F 21) (F 22) (F 23) (F 24) (F 25) (F 26) (F 27) (F 28) (F 29) (F 30) (F 31) (F 32) (F 33) (F 34) (F 35) (F 36) (F 37) (F 38) (F 39) (F 40) (F 41) (F 42) (F 43) (F 44) (A 0) (A 1) (A 2) (A 3) (A 4) (A 5) (A 6) (A 7) (A 8) (A 9) (A 10) (A 11) (A 12) (A 13) (A 14) (A 15) (A 16) (A 17) (A 18) (A 19) (A 20) (A 21) (A 22) (A 23) (A 24) (A 25) (A 26) := by
      intro nj
      unfold wX_act_46
      refine br_t rfl ?_
      unfold wX_act_57
      refine xb_full (F := F) (A := A) hK (fun hlt => br_t rfl ?_) (fun hge => br_f (by decide) (h3 k5 hq (fun z => absurd z nj) hge))
      have h4' := h4 k5 hq hlt nj
      refine xb_live (F := F) (A := A) hK (br_t rfl ?_)
      refine br_c (fun e1 => ?_) (fun e1 => br_c (fun e2 => ?_) (fun e2 => ?_))
      · rw [if_pos e1] at h4'
        exact xb_add (F := F) (A := A) hK hlt (xm_act_173 (F := (uv_st F 28 (nI (n + 1)))) (A := (uv_st (uv_st (uv_st (uv_st A 0 (upd (A 0) n 10)) 1 (upd (A 1) n (nI (ss_L (S n))))) 2 (upd (A 2) n 0)) 3 (upd (A 3) n 0))) x3 (by omega) h4')
      · rw [if_neg e1, if_pos e2] at h4'
        exact xb_add (F := F) (A := A) hK hlt (xm_act_173 (F := (uv_st F 28 (nI (n + 1)))) (A := (uv_st (uv_st (uv_st (uv_st A 0 (upd (A 0) n 11)) 1 (upd (A 1) n (nI (ss_L (S n))))) 2 (upd (A 2) n 0)) 3 (upd (A 3) n 0))) x3 (by omega) h4')
      · rw [if_neg e1, if_neg e2] at h4'
        exact xb_add (F := F) (A := A) hK hlt (xm_act_173 (F := (uv_st F 28 (nI (n + 1)))) (A := (uv_st (uv_st (uv_st (uv_st A 0 (upd (A 0) n 9)) 1 (upd (A 1) n (nI (ss_L (S n))))) 2 (upd (A 2) n 0)) 3 (upd (A 3) n 0))) x3 (by omega) h4')
    have jump : (x = 3 ∨ x = 4) → wX_act_41 post x (nI (ss_lx (ss_K (S n)) (ss_O (S n))) - 1) (F 0) (F 1) (F 2) (F 3) (F 4) (F 5) (F 6) (F 7) (F 8) (F 9) (F 10) (F 11) (F 12) (F 13) (F 14) (F 15) (F 16) (F 17) (F 18) (F 19) (F 20) (F 21) (F 22) (F 23) (F 24) (F 25) (F 26) (F 27) (F 28) (F 29) (F 30) (F 31) (F 32) (F 33) (F 34) (F 35) (F 36) (F 37) (F 38) (F 39) (F 40) (F 41) (F 42) (F 43) (F 44) (A 0) (A 1) (A 2) (A 3) (A 4) (A 5) (A 6) (A 7) (A 8) (A 9) (A 10) (A 11) (A 12) (A 13) (A 14) (A 15) (A 16) (A 17) (A 18) (A 19) (A 20) (A 21) (A 22) (A 23) (A 24) (A 25) (A 26) := by
      intro nj
      unfold wX_act_41 wX_act_46
      refine br_f (by decide) ?_
      by_cases hl : ss_lx (ss_K (S n)) (ss_O (S n)) = 0
      · refine br_f ?_ (h2 k5 hq nj hl)
        rw [hl]; decide
      obtain ⟨l3, lf, _⟩ := ss_lx_at (ss_K (S n)) (ss_O (S n)) hl
      have el : nI (ss_lx (ss_K (S n)) (ss_O (S n))) - 1 = nI (ss_lx (ss_K (S n)) (ss_O (S n)) - 1) := uv_m1 (by omega)
      rw [el]
      refine br_t (nI_pos' (by omega)) ?_
      unfold wX_act_57
      refine xb_full (F := F) (A := A) hK (fun hlt => br_t rfl ?_) (fun hge => br_f (by decide) (h3 k5 hq (fun _ => hl) hge))
      have h5' := h5 k5 hq hlt nj hl
      have i1 : vp_in (nI (ss_lx (ss_K (S n)) (ss_O (S n)) - 1)) 10 := vp_in_nI (by omega) (by omega)
      have i2 : (nI (ss_lx (ss_K (S n)) (ss_O (S n)) - 1)).toNatClampNeg = ss_lx (ss_K (S n)) (ss_O (S n)) - 1 := nI_clamp (by omega)
      obtain ⟨_, o2, o3⟩ := x5 (ss_lx (ss_K (S n)) (ss_O (S n)) - 1) (by omega)
      rw [show ss_lx (ss_K (S n)) (ss_O (S n)) - 1 + 1 = ss_lx (ss_K (S n)) (ss_O (S n)) by omega] at o2 o3
      have hCC : ss_C (S n) (ss_f (S n)) ≤ ss_C (S n) (ss_lx (ss_K (S n)) (ss_O (S n))) := by
        rcases Nat.eq_zero_or_pos (ss_f (S n)) with z | z
        · rw [z, hI.2.2.2.1]; omega
        · exact (hI.2.2.2.2.2.2.2.1 (ss_f (S n)) _ z lf hlO).2.1
      have e5 : (A 8) (ss_lx (ss_K (S n)) (ss_O (S n)) - 1) - (A 10) (ss_fd (ss_K (S n)) (ss_O (S n))) = nI (ss_C (S n) (ss_lx (ss_K (S n)) (ss_O (S n))) - ss_C (S n) (ss_f (S n))) := by
        rw [o3, top, pk_sub hCC]
      refine xb_live (F := F) (A := A) hK (br_f (by decide) ⟨i1, xb_in hK, nm_r (e' := nI (ss_C (S n) (ss_lx (ss_K (S n)) (ss_O (S n))) - ss_C (S n) (ss_f (S n)))) (by rw [i2, xb_cl hK, e5]) ?_⟩)
      refine br_c (fun e3 => ?_) (fun e3 => ?_)
      · rw [if_pos e3] at h5'
        unfold wX_act_106
        refine ⟨i1, ?_⟩
        rw [i2, o2]
        exact xb_add (F := F) (A := A) hK hlt (xm_act_173 (F := (uv_st F 28 (nI (n + 1)))) (A := (uv_st (uv_st (uv_st (uv_st A 0 (upd (A 0) n 12)) 1 (upd (A 1) n (nI (ss_L (S n))))) 2 (upd (A 2) n (nI (ss_C (S n) (ss_lx (ss_K (S n)) (ss_O (S n))) - ss_C (S n) (ss_f (S n)))))) 3 (upd (A 3) n (nI (ss_W (S n) (ss_lx (ss_K (S n)) (ss_O (S n)))))))) x3 (by omega) h5')
      · rw [if_neg e3] at h5'
        unfold wX_act_106
        refine ⟨i1, ?_⟩
        rw [i2, o2]
        exact xb_add (F := F) (A := A) hK hlt (xm_act_173 (F := (uv_st F 28 (nI (n + 1)))) (A := (uv_st (uv_st (uv_st (uv_st A 0 (upd (A 0) n 13)) 1 (upd (A 1) n (nI (ss_L (S n))))) 2 (upd (A 2) n (nI (ss_C (S n) (ss_lx (ss_K (S n)) (ss_O (S n))) - ss_C (S n) (ss_f (S n)))))) 3 (upd (A 3) n (nI (ss_W (S n) (ss_lx (ss_K (S n)) (ss_O (S n)))))))) x3 (by omega) h5')
    refine br_c (fun e3 => jump (Or.inl e3)) (fun e3 => br_c (fun e4 => jump (Or.inr e4)) (fun e4 => plain ?_))
    rintro (z | z)
    · exact e3 z
    · exact e4 z
  · rintro ⟨m, hm, rfl⟩
    exact c4 (nI_le (b := 4) (by omega) (by omega))
end
/-! the reference -/
/-- open loops of the open function -/
def ss_nl (K : Nat → Int32) : Nat → Nat
  | 0 => 0
  | i + 1 => if K (i + 1) = 5 then 0 else ss_nl K i + (if K (i + 1) = 3 then 1 else 0)
theorem ss_nl_le (K : Nat → Int32) : ∀ i, ss_nl K i ≤ i
  | 0 => Nat.le_refl 0
  | i + 1 => by
    have := ss_nl_le K i
    unfold ss_nl
    split
    · omega
    · split <;> omega
theorem ss_nl_lx (K : Nat → Int32) : ∀ i, ss_nl K i = 0 ↔ ss_lx K i = 0
  | 0 => Iff.rfl
  | i + 1 => by
    have ih := ss_nl_lx K i
    unfold ss_nl ss_lx
    by_cases h5 : K (i + 1) = 5
    · rw [if_pos h5, if_pos h5]
    · rw [if_neg h5, if_neg h5]
      by_cases h3 : K (i + 1) = 3
      · rw [if_pos h3, if_pos h3]; omega
      · rw [if_neg h3, if_neg h3, Nat.add_zero]; exact ih
theorem ss_nl_f (K : Nat → Int32) (i : Nat) : ss_nl K (ss_fx K i) = 0 := by
  rcases ss_fx_k K i with z | z
  · rw [z]; rfl
  · obtain ⟨q, hq⟩ : ∃ q, ss_fx K i = q + 1 := ⟨ss_fx K i - 1, by omega⟩
    rw [hq]
    unfold ss_nl
    rw [← hq, if_pos z.2]
section
variable {G : Nat → Int32} {B : Nat → Nat → Int32} {S : Nat → ss_T} {n mw : Nat} {x y : Int32}
theorem yw_add0 {post : Int32 → SY → Prop} (hn : (G 4) = nI n) (hmw : (G 0) = nI mw) (h96 : mw ≤ 96) (hnm : n ≤ mw)
    (h1 : n < mw → post 0 (uv_Y (uv_st G 4 (nI (n + 1))) (uv_st (uv_st B 0 (upd (B 0) n x)) 1 (upd (B 1) n y)))) (h2 : mw ≤ n → post 4 (uv_Y G B)) : wpY_add post (uv_Y G B) x y 0 := by
  unfold wpY_add uv_Y
  refine br_t rfl ?_
  refine pk_lt n mw (fun hlt => ?_) (fun hge => h2 hge) hn hmw (by omega) (by omega)
  have i1 : vp_in ((G 4)) 96 := by rw [hn]; exact vp_in_nI (by omega) (by omega)
  have i2 : ((G 4)).toNatClampNeg = n := by rw [hn]; exact nI_clamp (by omega)
  have i3 : (G 4) + 1 = nI (n + 1) := by rw [hn]; exact nI_1 n
  exact ⟨i1, nm_r (e' := upd (B 0) n x) (by rw [i2]) ⟨i1, nm_r (e' := upd (B 1) n y) (by rw [i2]) (nm_r i3 (h1 hlt))⟩⟩
theorem yw_add1 {post : Int32 → SY → Prop} (h : post 4 (uv_Y G B)) : wpY_add post (uv_Y G B) x y 1 := by
  unfold wpY_add uv_Y
  exact br_f (by decide) h
theorem yw_bad {post : Int32 → Prop} (h0 : ¬ ss_nm x → post 1) (h1 : ss_nm x → post 0) : wpY_badName post (uv_Y G B) x := by
  unfold wpY_badName uv_Y
  refine br_c (fun c => h0 ?_) (fun c => br_c (fun c8 => h1 ?_) (fun c8 => h0 ?_))
  · rintro ⟨m, hm, rfl⟩
    exact nI_pos (by omega) c
  · obtain ⟨j, hj, rfl⟩ := nI_of c
    refine ⟨j, ?_, rfl⟩
    by_cases z : j < 8
    · exact z
    · exact absurd c8 (nI_nlt (b := 8) (by omega) hj)
  · rintro ⟨m, hm, rfl⟩
    exact c8 (nI_lt (b := 8) hm (by omega))
theorem yw_loops {post : Int32 → Prop} {s : ss_T} (hO : ss_O s ≤ 10) (ho : (G 5) = nI (ss_O s)) (hf : (G 6) = nI (ss_f s)) (hK : ∀ i, i ≤ ss_O s → (B 2) i = ss_K s i)
    (hp : post (nI (ss_nl (ss_K s) (ss_O s)))) : wpY_openLoops post (uv_Y G B) := by
  have hfl := ss_f_le s
  have lp : ∀ (d c fuel : Nat), c + d = ss_O s → ss_f s ≤ c → d < fuel → wY_openLoops_9 post (G 0) (G 1) (G 2) (G 3) (G 4) (G 5) (G 6) (G 7) (G 8) (G 9) (G 10) (G 11) (G 12) (G 13) (G 14) (G 15) (G 16) (G 17) (G 18) (B 0) (B 1) (B 2) (B 3) (B 4) (B 5) (B 6) (B 7) (B 8) (B 9) (B 10) (B 11) (B 12) (B 13) (B 14) (B 15) (B 16) (B 17) (B 18) (B 19) (B 20) (B 21) (B 22) (B 23) fuel (nI (ss_nl (ss_K s) c)) (nI (c + 1)) := by
    intro d
    induction d with
    | zero =>
      intro c fuel hc hfc hfu
      obtain ⟨m, rfl⟩ : ∃ m, fuel = m + 1 := ⟨fuel - 1, by omega⟩
      have e : c = ss_O s := by omega
      have i1 : (G 5) < nI (c + 1) := by rw [ho, e]; exact nI_lt (by omega) (by omega)
      rw [wY_openLoops_9, e]
      rw [e] at i1
      exact br_t i1 hp
    | succ d ih =>
      intro c fuel hc hfc hfu
      obtain ⟨m, rfl⟩ : ∃ m, fuel = m + 1 := ⟨fuel - 1, by omega⟩
      have K := ih (c + 1) m (by omega) (by omega) (by omega)
      have i1 : ¬ (G 5) < nI (c + 1) := by rw [ho]; exact nI_nlt (by omega) (by omega)
      have i2 : vp_in (nI (c + 1)) 11 := vp_in_nI (by omega) (by omega)
      have i3 : (nI (c + 1)).toNatClampNeg = c + 1 := nI_clamp (by omega)
      have k1 := hK (c + 1) (by omega)
      have ef : ss_f s = ss_fx (ss_K s) (ss_O s) := rfl
      have n5 : ss_K s (c + 1) ≠ 5 := ss_fx_no (i := ss_O s) (by omega) (by omega)
      have u : ss_nl (ss_K s) (c + 1) = ss_nl (ss_K s) c + (if ss_K s (c + 1) = 3 then 1 else 0) := by
        show (if ss_K s (c + 1) = 5 then 0 else ss_nl (ss_K s) c + (if ss_K s (c + 1) = 3 then 1 else 0)) = _
        rw [if_neg n5]
      rw [wY_openLoops_9]
      refine br_f i1 ⟨i2, ?_⟩
      rw [i3, k1]
      by_cases h3 : ss_K s (c + 1) = 3
      · rw [u, if_pos h3] at K
        exact br_t h3 (nm_r (nI_1 _) (nm_r (nI_1 _) K))
      · rw [u, if_neg h3, Nat.add_zero] at K
        exact br_f h3 (nm_r (nI_1 _) K)
  unfold wpY_openLoops uv_Y
  refine nm_r (e' := nI (ss_f s + 1)) (by rw [hf]; exact nI_1 _) ⟨ss_O s + 1, ?_⟩
  have K := lp (ss_O s - ss_f s) (ss_f s) (ss_O s + 1) (by omega) (Nat.le_refl _) (by omega)
  have e0 : ss_nl (ss_K s) (ss_f s) = 0 := ss_nl_f _ _
  rw [e0] at K
  exact K
end
end
section
/-! the relation: a program read again, a word more -/
section
variable {S : Nat → ss_T} {n : Nat} {rn N g : Nat → Nat} {uc nd cc fu ou : Nat} {EC : Nat → Nat → Int32} {F F' G G' : Nat → Int32} {A A' B B' : Nat → Nat → Int32}
theorem rr_scan (h : rr_B S n rn N g uc nd cc fu ou EC F A G B) (f : ys_fr G B G' B') : rr_B S n rn N g uc nd cc fu ou EC F A G' B' := by
  obtain ⟨fg, fb⟩ := f
  unfold rr_B rr_L rr_N at h ⊢
  rw [fb 0 (by omega), fb 1 (by omega), fb 8 (by omega), fb 9 (by omega), fb 10 (by omega), fb 11 (by omega), fb 12 (by omega), fb 13 (by omega), fb 14 (by omega), fb 15 (by omega),
    fg 0 (by omega), fg 1 (by omega), fg 2 (by omega), fg 3 (by omega), fg 4 (by omega), fg 9 (by omega), fg 10 (by omega), fg 11 (by omega), fg 12 (by omega), fg 13 (by omega), fg 14 (by omega)]
  exact h
theorem rr_add {x y : Int32} {t : ss_T} {mw : Nat} (h : rr_B S n rn N g uc nd cc fu ou EC F A G B) (hR : ss_R x y n (S n) t) (hmw : (F 24) = nI mw) (h96 : mw ≤ 96) (hlt : n < mw)
    (eF : ∀ i, (24 ≤ i ∧ i ≤ 27) ∨ (33 ≤ i ∧ i ≤ 39) → F' i = F i) (eA : ∀ i, 14 ≤ i ∧ i ≤ 23 → A' i = A i) (eW : (F' 28) = nI (n + 1))
    (hpg : pg_P (upd (B 0) n x) (upd (B 1) n y) (uv_st S (n + 1) t) (n + 1) (A' 0) (A' 1) (A' 2) (A' 3) (A' 4) (A' 5))
    (hxc : xc_S (uv_st S (n + 1) t) (n + 1) (F' 29) (F' 30) (F' 31) (F' 32) (A' 6) (A' 7) (A' 8) (A' 9) (A' 10) (A' 11) (A' 12) (A' 13)) :
    rr_B (uv_st S (n + 1) t) (n + 1) rn N g uc nd cc fu ou EC F' A' (uv_st G 4 (nI (n + 1))) (uv_st (uv_st B 0 (upd (B 0) n x)) 1 (upd (B 1) n y)) := by
  obtain ⟨h1, ⟨mw', mf, md, mc, l1, l2, l3, l4, l5, l6, l7, l8, l9, l10, l11, l12, l13, l14, l15, l16⟩, h3, h4, h5, h6, h7, h8, h9⟩ := h
  have em : mw' = mw := (nI_eq (by omega) (by omega)).mp (l1.symm.trans hmw)
  subst em
  have ag : ss_ag n ((B 0)) ((B 1)) S (upd ((B 0)) n x) (upd ((B 1)) n y) (uv_st S (n + 1) t) := ss_ag_new
  have hS' := ss_S_new h1 hR
  refine ⟨hS', ⟨mw', mf, md, mc, ?_, l2, hlt, l4, ?_, l6, l7, ?_, l9, l10, ?_, l12, l13, l14, eW, rfl⟩, hpg, hxc, ?_, ?_, ?_, h8, ?_⟩
  · rw [eF 24 (by omega)]; exact l1
  · rw [eF 25 (by omega)]; exact l5
  · rw [eF 26 (by omega)]; exact l8
  · rw [eF 27 (by omega)]; exact l11
  · rw [eF 39 (by omega), eA 18 (by omega), eA 19 (by omega), eA 20 (by omega), eA 21 (by omega), eA 22 (by omega), eA 23 (by omega)]; exact h5
  · unfold rr_N at h6 ⊢
    rw [eF 33 (by omega), eF 34 (by omega), eF 35 (by omega), eF 36 (by omega), eF 37 (by omega), eF 38 (by omega)]; exact h6
  · rw [eA 14 (by omega), eA 15 (by omega)]; exact h7
  · intro t' ht
    obtain ⟨W, w1, w2, w3, w4, w5, w6, w7, w8⟩ := h9 t' ht
    rw [eA 16 (by omega), eA 17 (by omega)]
    have eS : uv_st S (n + 1) t W = S W := ag.2 W (by omega)
    have nc : ∀ i, ¬ ss_on (uv_st S (n + 1) t) n W i := fun i z => w4 i ((ss_ag_on ag (Nat.le_refl _)).mp z)
    refine ⟨W, w1, by omega, (ag.1 W w2).1.trans w3, fun i z => ?_, ?_, ?_, ?_, fun m hm => ?_⟩
    · exact nc i (ss_on_back hS' (by omega) (by omega) z).1
    · rw [eS]; exact w5
    · rw [eS]; exact w6
    · rw [eS]; exact w7
    · have ec : ss_cap (upd ((B 0)) n x) (upd ((B 1)) n y) (uv_st S (n + 1) t) (n + 1) W (nI m) ↔ ss_cap ((B 0)) ((B 1)) S n W (nI m) := (ss_cap_no nc).trans (ss_ag_cap ag)
      show (ss_cap (upd ((B 0)) n x) (upd ((B 1)) n y) (uv_st S (n + 1) t) (n + 1) W (nI m) → _) ∧ (¬ ss_cap (upd ((B 0)) n x) (upd ((B 1)) n y) (uv_st S (n + 1) t) (n + 1) W (nI m) → _)
      rw [ec, eS]; exact w8 m hm
/-- what the building calls ask of the tables -/
theorem rr_K (h : rr_B S n rn N g uc nd cc fu ou EC F A G B) : ∃ mw, (F 24) = nI mw ∧ (G 0) = nI mw ∧ mw ≤ 96 ∧ n ≤ mw ∧ (F 28) = nI n ∧ (G 4) = nI n ∧
    xb_K F A n mw (ss_fd (ss_K (S n)) (ss_O (S n))) (ss_Q (S n)) (ss_C (S n) (ss_f (S n))) (ss_V (S n)) := by
  obtain ⟨h1, ⟨mw, mf, md, mc, l1, l2, l3, l4, l5, l6, l7, l8, l9, l10, l11, l12, l13, l14, l15, l16⟩, h3, h4, h5, h6, h7, h8, h9⟩ := h
  have hI := ss_I_S h1 n (Nat.le_refl _)
  have top := xc_top h4
  have hfO := ss_fd_le (ss_K (S n)) (ss_O (S n))
  have hO := hI.1
  exact ⟨mw, l1, l2, l4, l3, l15, l16, l15, l1, l3, l4, h4.2.2.1, by omega, top.1, ss_Q6 hI, top.2, h4.2.2.2.1, ss_I_cf hI, ss_V88 hI⟩
end
/-- the relation at the head of a turn -/
def i_Rel (k : Nat) (u : SX) (v : SY) : Prop := ∃ (F : Nat → Int32) (A : Nat → Nat → Int32) (G : Nat → Int32) (B : Nat → Nat → Int32), u = uv_X F A ∧ v = uv_Y G B ∧
  ∃ (S : Nat → ss_T) (n : Nat) (N g : Nat → Nat) (uc nd cc fu ou : Nat) (EC : Nat → Nat → Int32), rr_B S n (fun _ => 0) N g uc nd cc fu ou EC F A G B
theorem i_up {k : Nat} {u : SX} {v : SY} (h : i_Rel k u v) : i_Rel (k + 4) u v := h
end
section
/-! the reference's building calls, by what they answer -/
section
variable {S : Nat → ss_T} {n mw : Nat} {G : Nat → Int32} {B : Nat → Nat → Int32} {x : Int32} {post : Int32 → SY → Prop}
theorem yb_A {k a : Nat → Int32} {op fn vr fu : Int32} {cK cW cV cO vN ct : Nat → Int32} (hI : ss_I n (S n)) (h : ys_A k a S n op fn vr fu cK cW cV cO vN ct) :
    vp_in fn 11 ∧ fn.toNatClampNeg = ss_f (S n) ∧ cO (ss_f (S n)) = nI (ss_Q (S n)) ∧ vp_in op 11 ∧ op.toNatClampNeg = ss_O (S n) := by
  obtain ⟨a1, a2, a3, a4, a5, a6, a7, a8, a9⟩ := h
  have hO := hI.1
  have hf := ss_f_le (S n)
  refine ⟨?_, ?_, a6 _ hf (xc_f5 _), ?_, ?_⟩
  · rw [a2]; exact vp_in_nI (by omega) (by omega)
  · rw [a2]; exact nI_clamp (by omega)
  · rw [a1]; exact vp_in_nI (by omega) (by omega)
  · rw [a1]; exact nI_clamp (by omega)
/-- what the reference's calls are given -/
def yb_K (S : Nat → ss_T) (n mw : Nat) (G : Nat → Int32) (B : Nat → Nat → Int32) : Prop := ss_S (B 0) (B 1) n S ∧ (G 0) = nI mw ∧ mw ≤ 96 ∧ n ≤ mw ∧ (G 4) = nI n
theorem yb_add0 {G' : Nat → Int32} {B' : Nat → Nat → Int32} {y : Int32} (hK : yb_K S n mw G B) (f : ys_fr G B G' B')
    (h1 : n < mw → post 0 (uv_Y (uv_st G' 4 (nI (n + 1))) (uv_st (uv_st B' 0 (upd (B' 0) n x)) 1 (upd (B' 1) n y)))) (h2 : mw ≤ n → post 4 (uv_Y G' B')) : wpY_add post (uv_Y G' B') x y 0 :=
  yw_add0 ((f.1 4 (by omega)).trans hK.2.2.2.2) ((f.1 0 (by omega)).trans hK.2.1) hK.2.2.1 hK.2.2.2.1 h1 h2
theorem ym_number (hK : yb_K S n mw G B) (h4 : ∀ G' B', ys_fr G B G' B' → (mw ≤ n ∨ ss_Q (S n) = 6) → post 4 (uv_Y G' B'))
    (h0 : ∀ G' B', ys_fr G B G' B' → n < mw → ss_Q (S n) ≠ 6 → post 0 (uv_Y (uv_st G' 4 (nI (n + 1))) (uv_st (uv_st B' 0 (upd (B' 0) n 0)) 1 (upd (B' 1) n x)))) : wpY_number post (uv_Y G B) x := by
  have hI := ss_I_S hK.1 n (Nat.le_refl _)
  have h96 := hK.2.2.1
  have hnm := hK.2.2.2.1
  unfold wpY_number uv_Y
  refine ys_scan (G := G) (B := B) hK.1 (by omega) hK.2.2.2.2 (fun G' B' f hA => ?_)
  obtain ⟨b1, b2, b3, b4, b5⟩ := yb_A hI hA
  show vp_in ((G' 6)) 11 ∧ ((B' 5) ((G' 6)).toNatClampNeg = 6 → wY_number_26 post 1 x 0 (G' 0) (G' 1) (G' 2) (G' 3) (G' 4) (G' 5) (G' 6) (G' 7) (G' 8) (G' 9) (G' 10) (G' 11) (G' 12) (G' 13) (G' 14) (G' 15) (G' 16) (G' 17) (G' 18) (B' 0) (B' 1) (B' 2) (B' 3) (B' 4) (B' 5) (B' 6) (B' 7) (B' 8) (B' 9) (B' 10) (B' 11) (B' 12) (B' 13) (B' 14) (B' 15) (B' 16) (B' 17) (B' 18) (B' 19) (B' 20) (B' 21) (B' 22) (B' 23)) ∧ (¬ (B' 5) ((G' 6)).toNatClampNeg = 6 → wY_number_26 post 0 x 0 (G' 0) (G' 1) (G' 2) (G' 3) (G' 4) (G' 5) (G' 6) (G' 7) (G' 8) (G' 9) (G' 10) (G' 11) (G' 12) (G' 13) (G' 14) (G' 15) (G' 16) (G' 17) (G' 18) (B' 0) (B' 1) (B' 2) (B' 3) (B' 4) (B' 5) (B' 6) (B' 7) (B' 8) (B' 9) (B' 10) (B' 11) (B' 12) (B' 13) (B' 14) (B' 15) (B' 16) (B' 17) (B' 18) (B' 19) (B' 20) (B' 21) (B' 22) (B' 23))
  refine ⟨b1, ?_⟩
  rw [b2, b3]
  refine pk_eq (ss_Q (S n)) 6 (fun h6 => ?_) (fun h6 => ?_) rfl rfl (by have := ss_Q6 hI; omega) (by omega)
  · exact yw_add1 (G := G') (B := B') (h4 G' B' f (Or.inr h6))
  · exact yb_add0 (G' := G') (B' := B') hK f (fun hlt => h0 G' B' f hlt h6) (fun hge => h4 G' B' f (Or.inl hge))
theorem ym_get (hK : yb_K S n mw G B) (h1 : ¬ ss_nm x → post 1 (uv_Y G B)) (h3 : ∀ G' B', ys_fr G B G' B' → ss_nm x → ss_l (S n) x = 0 → post 3 (uv_Y G' B'))
    (h4 : ∀ G' B', ys_fr G B G' B' → ss_nm x → ss_l (S n) x ≠ 0 → (mw ≤ n ∨ ss_Q (S n) = 6) → post 4 (uv_Y G' B'))
    (h0 : ∀ G' B', ys_fr G B G' B' → ss_nm x → ss_l (S n) x ≠ 0 → n < mw → ss_Q (S n) ≠ 6 → post 0 (uv_Y (uv_st G' 4 (nI (n + 1))) (uv_st (uv_st B' 0 (upd (B' 0) n 1)) 1 (upd (B' 1) n x)))) : wpY_get post (uv_Y G B) x := by
  have hI := ss_I_S hK.1 n (Nat.le_refl _)
  have h96 := hK.2.2.1
  have hnm := hK.2.2.2.1
  have hO := hI.1
  have hlv := ss_lv_le (ss_K (S n)) (ss_C (S n)) (ss_l (S n) x) (ss_O (S n))
  unfold wpY_get uv_Y
  refine yw_bad (G := G) (B := B) (fun hn => br_f (by decide) (h1 hn)) (fun hn => br_t rfl ?_)
  refine ys_scan (G := G) (B := B) hK.1 (by omega) hK.2.2.2.2 (fun G' B' f hA => ?_)
  obtain ⟨b1, b2, b3, b4, b5⟩ := yb_A hI hA
  refine yw_level (G := G') (B := B') hI hA.1 hA.2.2.1 hA.2.2.2.2.1 hA.2.2.2.2.2.2.2.1 (fun hl => br_f (by decide) (h3 G' B' f hn hl)) (fun hl => br_t (nI_pos' (by omega)) ⟨b1, ?_⟩)
  show ((B' 5) ((G' 6)).toNatClampNeg = 6 → wY_get_46 post 1 x 1 (G' 0) (G' 1) (G' 2) (G' 3) (G' 4) (G' 5) (G' 6) (G' 7) (G' 8) (G' 9) (G' 10) (G' 11) (G' 12) (G' 13) (G' 14) (G' 15) (G' 16) (G' 17) (G' 18) (B' 0) (B' 1) (B' 2) (B' 3) (B' 4) (B' 5) (B' 6) (B' 7) (B' 8) (B' 9) (B' 10) (B' 11) (B' 12) (B' 13) (B' 14) (B' 15) (B' 16) (B' 17) (B' 18) (B' 19) (B' 20) (B' 21) (B' 22) (B' 23)) ∧ (¬ (B' 5) ((G' 6)).toNatClampNeg = 6 → wY_get_46 post 0 x 1 (G' 0) (G' 1) (G' 2) (G' 3) (G' 4) (G' 5) (G' 6) (G' 7) (G' 8) (G' 9) (G' 10) (G' 11) (G' 12) (G' 13) (G' 14) (G' 15) (G' 16) (G' 17) (G' 18) (B' 0) (B' 1) (B' 2) (B' 3) (B' 4) (B' 5) (B' 6) (B' 7) (B' 8) (B' 9) (B' 10) (B' 11) (B' 12) (B' 13) (B' 14) (B' 15) (B' 16) (B' 17) (B' 18) (B' 19) (B' 20) (B' 21) (B' 22) (B' 23))
  rw [b2, b3]
  refine pk_eq (ss_Q (S n)) 6 (fun h6 => ?_) (fun h6 => ?_) rfl rfl (by have := ss_Q6 hI; omega) (by omega)
  · exact yw_add1 (G := G') (B := B') (h4 G' B' f hn hl (Or.inr h6))
  · exact yb_add0 (G' := G') (B' := B') hK f (fun hlt => h0 G' B' f hn hl hlt h6) (fun hge => h4 G' B' f hn hl (Or.inl hge))
theorem ym_op (hK : yb_K S n mw G B) (h1 : ¬ ss_k5 x → post 1 (uv_Y G B)) (h2 : ∀ G' B', ys_fr G B G' B' → ss_k5 x → ss_Q (S n) < 2 → post 2 (uv_Y G' B'))
    (h4 : ∀ G' B', ys_fr G B G' B' → ss_k5 x → 2 ≤ ss_Q (S n) → mw ≤ n → post 4 (uv_Y G' B'))
    (h0 : ∀ G' B', ys_fr G B G' B' → ss_k5 x → 2 ≤ ss_Q (S n) → n < mw → post 0 (uv_Y (uv_st G' 4 (nI (n + 1))) (uv_st (uv_st B' 0 (upd (B' 0) n 2)) 1 (upd (B' 1) n x)))) : wpY_op post (uv_Y G B) x := by
  have hI := ss_I_S hK.1 n (Nat.le_refl _)
  have h96 := hK.2.2.1
  have hnm := hK.2.2.2.1
  unfold wpY_op uv_Y
  refine br_c (fun c => h1 ?_) (fun c => br_c (fun c4 => ?_) (fun c4 => h1 ?_))
  · rintro ⟨m, hm, rfl⟩
    exact nI_pos (by omega) c
  · have k5 : ss_k5 x := by
      obtain ⟨j, hj, rfl⟩ := nI_of2 (M := 4) (n := 4) (by decide) c c4
      exact ⟨j, by omega, rfl⟩
    refine ys_scan (G := G) (B := B) hK.1 (by omega) hK.2.2.2.2 (fun G' B' f hA => ?_)
    obtain ⟨b1, b2, b3, b4, b5⟩ := yb_A hI hA
    show vp_in ((G' 6)) 11 ∧ (2 ≤ (B' 5) ((G' 6)).toNatClampNeg → wpY_add _ (uv_Y G' B') 2 x 0) ∧ (¬ 2 ≤ (B' 5) ((G' 6)).toNatClampNeg → post 2 (uv_Y G' B'))
    refine ⟨b1, ?_⟩
    rw [b2, b3]
    refine pk_le 2 (ss_Q (S n)) (fun hq => ?_) (fun hq => h2 G' B' f k5 hq) rfl rfl (by omega) (by have := ss_Q6 hI; omega)
    exact yb_add0 (G' := G') (B' := B') hK f (fun hlt => h0 G' B' f k5 hq hlt) (fun hge => h4 G' B' f k5 hq hge)
  · rintro ⟨m, hm, rfl⟩
    exact c4 (nI_le (b := 4) (by omega) (by omega))
theorem ym_call (hK : yb_K S n mw G B) (h2 : ∀ G' B', ys_fr G B G' B' → ss_Q (S n) < 2 → post 2 (uv_Y G' B'))
    (h4 : ∀ G' B', ys_fr G B G' B' → 2 ≤ ss_Q (S n) → mw ≤ n → post 4 (uv_Y G' B'))
    (h0 : ∀ G' B', ys_fr G B G' B' → 2 ≤ ss_Q (S n) → n < mw → post 0 (uv_Y (uv_st G' 4 (nI (n + 1))) (uv_st (uv_st B' 0 (upd (B' 0) n 3)) 1 (upd (B' 1) n 0)))) : wpY_call post (uv_Y G B) := by
  have hI := ss_I_S hK.1 n (Nat.le_refl _)
  have h96 := hK.2.2.1
  have hnm := hK.2.2.2.1
  unfold wpY_call uv_Y
  refine ys_scan (G := G) (B := B) hK.1 (by omega) hK.2.2.2.2 (fun G' B' f hA => ?_)
  obtain ⟨b1, b2, b3, b4, b5⟩ := yb_A hI hA
  show vp_in ((G' 6)) 11 ∧ (2 ≤ (B' 5) ((G' 6)).toNatClampNeg → wpY_add _ (uv_Y G' B') 3 0 0) ∧ (¬ 2 ≤ (B' 5) ((G' 6)).toNatClampNeg → post 2 (uv_Y G' B'))
  refine ⟨b1, ?_⟩
  rw [b2, b3]
  refine pk_le 2 (ss_Q (S n)) (fun hq => ?_) (fun hq => h2 G' B' f hq) rfl rfl (by omega) (by have := ss_Q6 hI; omega)
  exact yb_add0 (G' := G') (B' := B') hK f (fun hlt => h0 G' B' f hq hlt) (fun hge => h4 G' B' f hq hge)
theorem ym_function (hK : yb_K S n mw G B) (h1 : ¬ ss_nm x → post 1 (uv_Y G B)) (h4 : ∀ G' B', ys_fr G B G' B' → ss_nm x → (mw ≤ n ∨ ss_Q (S n) = 6 ∨ ss_O (S n) = 10 ∨ ss_F (S n) = 16) → post 4 (uv_Y G' B'))
    (h0 : ∀ G' B', ys_fr G B G' B' → ss_nm x → n < mw → ss_Q (S n) ≠ 6 → ss_O (S n) ≠ 10 → ss_F (S n) ≠ 16 → post 0 (uv_Y (uv_st G' 4 (nI (n + 1))) (uv_st (uv_st B' 0 (upd (B' 0) n 4)) 1 (upd (B' 1) n x)))) : wpY_function post (uv_Y G B) x := by
  have hI := ss_I_S hK.1 n (Nat.le_refl _)
  have h96 := hK.2.2.1
  have hnm := hK.2.2.2.1
  have hO := hI.1
  have hF := hI.2.1
  unfold wpY_function uv_Y
  refine yw_bad (G := G) (B := B) (fun hn => br_f (by decide) (h1 hn)) (fun hn => br_t rfl ?_)
  refine ys_scan (G := G) (B := B) hK.1 (by omega) hK.2.2.2.2 (fun G' B' f hA => ?_)
  obtain ⟨b1, b2, b3, b4, b5⟩ := yb_A hI hA
  show vp_in ((G' 6)) 11 ∧ ((B' 5) ((G' 6)).toNatClampNeg = 6 → wY_function_49 post x 4 (G' 0) (G' 1) (G' 2) (G' 3) (G' 4) (G' 5) (G' 6) (G' 7) (G' 8) (G' 9) (G' 10) (G' 11) (G' 12) (G' 13) (G' 14) (G' 15) (G' 16) (G' 17) (G' 18) (B' 0) (B' 1) (B' 2) (B' 3) (B' 4) (B' 5) (B' 6) (B' 7) (B' 8) (B' 9) (B' 10) (B' 11) (B' 12) (B' 13) (B' 14) (B' 15) (B' 16) (B' 17) (B' 18) (B' 19) (B' 20) (B' 21) (B' 22) (B' 23)) ∧ (¬ (B' 5) ((G' 6)).toNatClampNeg = 6 → (((G' 5) = 10 → wY_function_49 post x 4 (G' 0) (G' 1) (G' 2) (G' 3) (G' 4) (G' 5) (G' 6) (G' 7) (G' 8) (G' 9) (G' 10) (G' 11) (G' 12) (G' 13) (G' 14) (G' 15) (G' 16) (G' 17) (G' 18) (B' 0) (B' 1) (B' 2) (B' 3) (B' 4) (B' 5) (B' 6) (B' 7) (B' 8) (B' 9) (B' 10) (B' 11) (B' 12) (B' 13) (B' 14) (B' 15) (B' 16) (B' 17) (B' 18) (B' 19) (B' 20) (B' 21) (B' 22) (B' 23)) ∧ (¬ (G' 5) = 10 → (((G' 8) = 16 → wY_function_49 post x 4 (G' 0) (G' 1) (G' 2) (G' 3) (G' 4) (G' 5) (G' 6) (G' 7) (G' 8) (G' 9) (G' 10) (G' 11) (G' 12) (G' 13) (G' 14) (G' 15) (G' 16) (G' 17) (G' 18) (B' 0) (B' 1) (B' 2) (B' 3) (B' 4) (B' 5) (B' 6) (B' 7) (B' 8) (B' 9) (B' 10) (B' 11) (B' 12) (B' 13) (B' 14) (B' 15) (B' 16) (B' 17) (B' 18) (B' 19) (B' 20) (B' 21) (B' 22) (B' 23)) ∧ (¬ (G' 8) = 16 → wY_function_54 post 0 x 4 (G' 0) (G' 1) (G' 2) (G' 3) (G' 4) (G' 5) (G' 6) (G' 7) (G' 8) (G' 9) (G' 10) (G' 11) (G' 12) (G' 13) (G' 14) (G' 15) (G' 16) (G' 17) (G' 18) (B' 0) (B' 1) (B' 2) (B' 3) (B' 4) (B' 5) (B' 6) (B' 7) (B' 8) (B' 9) (B' 10) (B' 11) (B' 12) (B' 13) (B' 14) (B' 15) (B' 16) (B' 17) (B' 18) (B' 19) (B' 20) (B' 21) (B' 22) (B' 23))))))
  refine ⟨b1, ?_⟩
  rw [b2, b3]
  refine pk_eq (ss_Q (S n)) 6 (fun h6 => ?_) (fun h6 => ?_) rfl rfl (by have := ss_Q6 hI; omega) (by omega)
  · exact yw_add1 (G := G') (B := B') (h4 G' B' f hn (Or.inr (Or.inl h6)))
  refine pk_eq (ss_O (S n)) 10 (fun h10 => ?_) (fun h10 => ?_) hA.1 rfl (by omega) (by omega)
  · exact yw_add1 (G := G') (B := B') (h4 G' B' f hn (Or.inr (Or.inr (Or.inl h10))))
  refine pk_eq (ss_F (S n)) 16 (fun h16 => ?_) (fun h16 => ?_) hA.2.2.2.1 rfl (by omega) (by omega)
  · exact yw_add1 (G := G') (B := B') (h4 G' B' f hn (Or.inr (Or.inr (Or.inr h16))))
  · exact yb_add0 (G' := G') (B' := B') hK f (fun hlt => h0 G' B' f hn hlt h6 h10 h16) (fun hge => h4 G' B' f hn (Or.inl hge))
theorem ym_declare (hK : yb_K S n mw G B) (h1 : ¬ ss_nm x → post 1 (uv_Y G B)) (h2 : ∀ G' B', ys_fr G B G' B' → ss_nm x → ss_Q (S n) ≠ 1 → post 2 (uv_Y G' B'))
    (h4 : ∀ G' B', ys_fr G B G' B' → ss_nm x → ss_Q (S n) = 1 → (mw ≤ n ∨ ss_L (S n) = 8) → post 4 (uv_Y G' B'))
    (h0 : ∀ G' B', ys_fr G B G' B' → ss_nm x → ss_Q (S n) = 1 → n < mw → ss_L (S n) ≠ 8 → post 0 (uv_Y (uv_st G' 4 (nI (n + 1))) (uv_st (uv_st B' 0 (upd (B' 0) n 5)) 1 (upd (B' 1) n x)))) : wpY_declare post (uv_Y G B) x := by
  have hI := ss_I_S hK.1 n (Nat.le_refl _)
  have h96 := hK.2.2.1
  have hnm := hK.2.2.2.1
  have hL := ss_L8 hI
  unfold wpY_declare uv_Y
  refine yw_bad (G := G) (B := B) (fun hn => br_f (by decide) (h1 hn)) (fun hn => br_t rfl ?_)
  refine ys_scan (G := G) (B := B) hK.1 (by omega) hK.2.2.2.2 (fun G' B' f hA => ?_)
  obtain ⟨b1, b2, b3, b4, b5⟩ := yb_A hI hA
  have eL : (G' 7) - (B' 4) (ss_f (S n)) = nI (ss_L (S n)) := by
    rw [hA.2.2.1, (hA.2.2.2.2.1 _ (ss_f_le _)).2, pk_sub (ss_I_cf hI)]; rfl
  show vp_in ((G' 6)) 11 ∧ ((B' 5) ((G' 6)).toNatClampNeg = 1 → (vp_in ((G' 6)) 11 ∧ (((G' 7) - (B' 4) ((G' 6)).toNatClampNeg = 8 → wY_declare_56 post 1 x 5 (G' 0) (G' 1) (G' 2) (G' 3) (G' 4) (G' 5) (G' 6) (G' 7) (G' 8) (G' 9) (G' 10) (G' 11) (G' 12) (G' 13) (G' 14) (G' 15) (G' 16) (G' 17) (G' 18) (B' 0) (B' 1) (B' 2) (B' 3) (B' 4) (B' 5) (B' 6) (B' 7) (B' 8) (B' 9) (B' 10) (B' 11) (B' 12) (B' 13) (B' 14) (B' 15) (B' 16) (B' 17) (B' 18) (B' 19) (B' 20) (B' 21) (B' 22) (B' 23)) ∧ (¬ (G' 7) - (B' 4) ((G' 6)).toNatClampNeg = 8 → wY_declare_56 post 0 x 5 (G' 0) (G' 1) (G' 2) (G' 3) (G' 4) (G' 5) (G' 6) (G' 7) (G' 8) (G' 9) (G' 10) (G' 11) (G' 12) (G' 13) (G' 14) (G' 15) (G' 16) (G' 17) (G' 18) (B' 0) (B' 1) (B' 2) (B' 3) (B' 4) (B' 5) (B' 6) (B' 7) (B' 8) (B' 9) (B' 10) (B' 11) (B' 12) (B' 13) (B' 14) (B' 15) (B' 16) (B' 17) (B' 18) (B' 19) (B' 20) (B' 21) (B' 22) (B' 23))))) ∧ (¬ (B' 5) ((G' 6)).toNatClampNeg = 1 → post 2 (uv_Y G' B'))
  refine ⟨b1, ?_⟩
  rw [b2, b3, eL]
  refine pk_eq (ss_Q (S n)) 1 (fun hq => ⟨b1, ?_⟩) (fun hq => h2 G' B' f hn hq) rfl rfl (by have := ss_Q6 hI; omega) (by omega)
  refine pk_eq (ss_L (S n)) 8 (fun h8 => ?_) (fun h8 => ?_) rfl rfl (by omega) (by omega)
  · exact yw_add1 (G := G') (B := B') (h4 G' B' f hn hq (Or.inr h8))
  · exact yb_add0 (G' := G') (B' := B') hK f (fun hlt => h0 G' B' f hn hq hlt h8) (fun hge => h4 G' B' f hn hq (Or.inl hge))
theorem ym_assign (hK : yb_K S n mw G B) (h1 : ¬ ss_nm x → post 1 (uv_Y G B)) (h2 : ∀ G' B', ys_fr G B G' B' → ss_nm x → ss_Q (S n) ≠ 1 → post 2 (uv_Y G' B'))
    (h3 : ∀ G' B', ys_fr G B G' B' → ss_nm x → ss_Q (S n) = 1 → ss_l (S n) x = 0 → post 3 (uv_Y G' B')) (h4 : ∀ G' B', ys_fr G B G' B' → ss_nm x → ss_Q (S n) = 1 → ss_l (S n) x ≠ 0 → mw ≤ n → post 4 (uv_Y G' B'))
    (h0 : ∀ G' B', ys_fr G B G' B' → ss_nm x → ss_Q (S n) = 1 → ss_l (S n) x ≠ 0 → n < mw → post 0 (uv_Y (uv_st G' 4 (nI (n + 1))) (uv_st (uv_st B' 0 (upd (B' 0) n 6)) 1 (upd (B' 1) n x)))) : wpY_assign post (uv_Y G B) x := by
  have hI := ss_I_S hK.1 n (Nat.le_refl _)
  have h96 := hK.2.2.1
  have hnm := hK.2.2.2.1
  have hO := hI.1
  have hlv := ss_lv_le (ss_K (S n)) (ss_C (S n)) (ss_l (S n) x) (ss_O (S n))
  unfold wpY_assign uv_Y
  refine yw_bad (G := G) (B := B) (fun hn => br_f (by decide) (h1 hn)) (fun hn => br_t rfl ?_)
  refine ys_scan (G := G) (B := B) hK.1 (by omega) hK.2.2.2.2 (fun G' B' f hA => ?_)
  obtain ⟨b1, b2, b3, b4, b5⟩ := yb_A hI hA
  show vp_in ((G' 6)) 11 ∧ ((B' 5) ((G' 6)).toNatClampNeg = 1 → wpY_level _ (uv_Y G' B') x) ∧ (¬ (B' 5) ((G' 6)).toNatClampNeg = 1 → post 2 (uv_Y G' B'))
  refine ⟨b1, ?_⟩
  rw [b2, b3]
  refine pk_eq (ss_Q (S n)) 1 (fun hq => ?_) (fun hq => h2 G' B' f hn hq) rfl rfl (by have := ss_Q6 hI; omega) (by omega)
  refine yw_level (G := G') (B := B') hI hA.1 hA.2.2.1 hA.2.2.2.2.1 hA.2.2.2.2.2.2.2.1 (fun hl => br_f (by decide) (h3 G' B' f hn hq hl)) (fun hl => br_t (nI_pos' (by omega)) ?_)
  exact yb_add0 (G' := G') (B' := B') hK f (fun hlt => h0 G' B' f hn hq hl hlt) (fun hge => h4 G' B' f hn hq hl hge)
theorem ym_act (hK : yb_K S n mw G B) (h1 : ¬ ss_k5 x → post 1 (uv_Y G B)) (h2 : ∀ G' B', ys_fr G B G' B' → ss_k5 x → (ss_Q (S n) ≠ 1 ∨ ((x = 3 ∨ x = 4) ∧ ss_lx (ss_K (S n)) (ss_O (S n)) = 0)) → post 2 (uv_Y G' B'))
    (h4 : ∀ G' B', ys_fr G B G' B' → ss_k5 x → ss_Q (S n) = 1 → ((x = 3 ∨ x = 4) → ss_lx (ss_K (S n)) (ss_O (S n)) ≠ 0) → mw ≤ n → post 4 (uv_Y G' B'))
    (h0 : ∀ G' B', ys_fr G B G' B' → ss_k5 x → ss_Q (S n) = 1 → ((x = 3 ∨ x = 4) → ss_lx (ss_K (S n)) (ss_O (S n)) ≠ 0) → n < mw → post 0 (uv_Y (uv_st G' 4 (nI (n + 1))) (uv_st (uv_st B' 0 (upd (B' 0) n 7)) 1 (upd (B' 1) n x)))) : wpY_act post (uv_Y G B) x := by
  have hI := ss_I_S hK.1 n (Nat.le_refl _)
  have h96 := hK.2.2.1
  have hnm := hK.2.2.2.1
  have hO := hI.1
  have hnl := ss_nl_le (ss_K (S n)) (ss_O (S n))
  unfold wpY_act uv_Y
  refine br_c (fun c => h1 ?_) (fun c => br_c (fun c4 => ?_) (fun c4 => h1 ?_))
  · rintro ⟨m, hm, rfl⟩
    exact nI_pos (by omega) c
  · have k5 : ss_k5 x := by
      obtain ⟨j, hj, rfl⟩ := nI_of2 (M := 4) (n := 4) (by decide) c c4
      exact ⟨j, by omega, rfl⟩
    refine ys_scan (G := G) (B := B) hK.1 (by omega) hK.2.2.2.2 (fun G' B' f hA => ?_)
    obtain ⟨b1, b2, b3, b4, b5⟩ := yb_A hI hA
    show vp_in ((G' 6)) 11 ∧ ((B' 5) ((G' 6)).toNatClampNeg = 1 → ((x = 3 → wY_act_40 post x (G' 0) (G' 1) (G' 2) (G' 3) (G' 4) (G' 5) (G' 6) (G' 7) (G' 8) (G' 9) (G' 10) (G' 11) (G' 12) (G' 13) (G' 14) (G' 15) (G' 16) (G' 17) (G' 18) (B' 0) (B' 1) (B' 2) (B' 3) (B' 4) (B' 5) (B' 6) (B' 7) (B' 8) (B' 9) (B' 10) (B' 11) (B' 12) (B' 13) (B' 14) (B' 15) (B' 16) (B' 17) (B' 18) (B' 19) (B' 20) (B' 21) (B' 22) (B' 23)) ∧ (¬ x = 3 → ((x = 4 → wY_act_40 post x (G' 0) (G' 1) (G' 2) (G' 3) (G' 4) (G' 5) (G' 6) (G' 7) (G' 8) (G' 9) (G' 10) (G' 11) (G' 12) (G' 13) (G' 14) (G' 15) (G' 16) (G' 17) (G' 18) (B' 0) (B' 1) (B' 2) (B' 3) (B' 4) (B' 5) (B' 6) (B' 7) (B' 8) (B' 9) (B' 10) (B' 11) (B' 12) (B' 13) (B' 14) (B' 15) (B' 16) (B' 17) (B' 18) (B' 19) (B' 20) (B' 21) (B' 22) (B' 23)) ∧ (¬ x = 4 → wY_act_49 post x (G' 0) (G' 1) (G' 2) (G' 3) (G' 4) (G' 5) (G' 6) (G' 7) (G' 8) (G' 9) (G' 10) (G' 11) (G' 12) (G' 13) (G' 14) (G' 15) (G' 16) (G' 17) (G' 18) (B' 0) (B' 1) (B' 2) (B' 3) (B' 4) (B' 5) (B' 6) (B' 7) (B' 8) (B' 9) (B' 10) (B' 11) (B' 12) (B' 13) (B' 14) (B' 15) (B' 16) (B' 17) (B' 18) (B' 19) (B' 20) (B' 21) (B' 22) (B' 23)))))) ∧ (¬ (B' 5) ((G' 6)).toNatClampNeg = 1 → post 2 (uv_Y G' B'))
    refine ⟨b1, ?_⟩
    rw [b2, b3]
    refine pk_eq (ss_Q (S n)) 1 (fun hq => ?_) (fun hq => h2 G' B' f k5 (Or.inl hq)) rfl rfl (by have := ss_Q6 hI; omega) (by omega)
    have jump : (x = 3 ∨ x = 4) → wY_act_40 post x (G' 0) (G' 1) (G' 2) (G' 3) (G' 4) (G' 5) (G' 6) (G' 7) (G' 8) (G' 9) (G' 10) (G' 11) (G' 12) (G' 13) (G' 14) (G' 15) (G' 16) (G' 17) (G' 18) (B' 0) (B' 1) (B' 2) (B' 3) (B' 4) (B' 5) (B' 6) (B' 7) (B' 8) (B' 9) (B' 10) (B' 11) (B' 12) (B' 13) (B' 14) (B' 15) (B' 16) (B' 17) (B' 18) (B' 19) (B' 20) (B' 21) (B' 22) (B' 23) := by
      intro nj
      unfold wY_act_40
      refine yw_loops (G := G') (B := B') (s := S n) hO hA.1 hA.2.1 (fun i hi => (hA.2.2.2.2.1 i hi).1) ?_
      refine pk_eq (ss_nl (ss_K (S n)) (ss_O (S n))) 0 (fun z => h2 G' B' f k5 (Or.inr ⟨nj, (ss_nl_lx _ _).mp z⟩)) (fun z => ?_) rfl rfl (by omega) (by omega)
      have hl : ss_lx (ss_K (S n)) (ss_O (S n)) ≠ 0 := fun y => z ((ss_nl_lx _ _).mpr y)
      exact yb_add0 (G' := G') (B' := B') hK f (fun hlt => h0 G' B' f k5 hq (fun _ => hl) hlt) (fun hge => h4 G' B' f k5 hq (fun _ => hl) hge)
    refine br_c (fun e3 => jump (Or.inl e3)) (fun e3 => br_c (fun e4 => jump (Or.inr e4)) (fun e4 => ?_))
    have nj : ¬ (x = 3 ∨ x = 4) := by
      rintro (z | z)
      · exact e3 z
      · exact e4 z
    exact yb_add0 (G' := G') (B' := B') hK f (fun hlt => h0 G' B' f k5 hq (fun z => absurd z nj) hlt) (fun hge => h4 G' B' f k5 hq (fun z => absurd z nj) hge)
  · rintro ⟨m, hm, rfl⟩
    exact c4 (nI_le (b := 4) (by omega) (by omega))
theorem uv_k3 : ¬ x < 1 → x ≤ 3 → (x = 1 ∨ x = 2 ∨ x = 3) := by
  intro a b
  have h1 : (1 : Int32).toInt = 1 := by decide
  have h3 : (3 : Int32).toInt = 3 := by decide
  rw [Int32.lt_iff_toInt_lt, h1] at a
  rw [Int32.le_iff_toInt_le, h3] at b
  have e : x.toInt = 1 ∨ x.toInt = 2 ∨ x.toInt = 3 := by omega
  rcases e with e | e | e
  · exact Or.inl (Int32.toInt_inj.mp (by rw [e]; decide))
  · exact Or.inr (Or.inl (Int32.toInt_inj.mp (by rw [e]; decide)))
  · exact Or.inr (Or.inr (Int32.toInt_inj.mp (by rw [e]; decide)))
theorem ym_block (hK : yb_K S n mw G B) (h1 : ¬ (x = 1 ∨ x = 2 ∨ x = 3) → post 1 (uv_Y G B)) (h2 : ∀ G' B', ys_fr G B G' B' → (x = 1 ∨ x = 2 ∨ x = 3) → ss_Q (S n) ≠ (if x = 2 then 1 else 0) → post 2 (uv_Y G' B'))
    (h4 : ∀ G' B', ys_fr G B G' B' → (x = 1 ∨ x = 2 ∨ x = 3) → ss_Q (S n) = (if x = 2 then 1 else 0) → (mw ≤ n ∨ ss_O (S n) = 10) → post 4 (uv_Y G' B'))
    (h0 : ∀ G' B', ys_fr G B G' B' → (x = 1 ∨ x = 2 ∨ x = 3) → ss_Q (S n) = (if x = 2 then 1 else 0) → n < mw → ss_O (S n) ≠ 10 → post 0 (uv_Y (uv_st G' 4 (nI (n + 1))) (uv_st (uv_st B' 0 (upd (B' 0) n 8)) 1 (upd (B' 1) n x)))) : wpY_block post (uv_Y G B) x := by
  have hI := ss_I_S hK.1 n (Nat.le_refl _)
  have h96 := hK.2.2.1
  have hnm := hK.2.2.2.1
  have hO := hI.1
  unfold wpY_block uv_Y
  refine br_c (fun c => h1 ?_) (fun c => br_c (fun c3 => ?_) (fun c3 => h1 ?_))
  · rintro (z | z | z) <;> rw [z] at c <;> exact absurd c (by decide)
  · have k := uv_k3 c c3
    refine ys_scan (G := G) (B := B) hK.1 (by omega) hK.2.2.2.2 (fun G' B' f hA => ?_)
    obtain ⟨b1, b2, b3, b4, b5⟩ := yb_A hI hA
    show vp_in ((G' 6)) 11 ∧ (x = 2 → wY_block_35 post x 1 ((B' 5) ((G' 6)).toNatClampNeg) (G' 0) (G' 1) (G' 2) (G' 3) (G' 4) (G' 5) (G' 6) (G' 7) (G' 8) (G' 9) (G' 10) (G' 11) (G' 12) (G' 13) (G' 14) (G' 15) (G' 16) (G' 17) (G' 18) (B' 0) (B' 1) (B' 2) (B' 3) (B' 4) (B' 5) (B' 6) (B' 7) (B' 8) (B' 9) (B' 10) (B' 11) (B' 12) (B' 13) (B' 14) (B' 15) (B' 16) (B' 17) (B' 18) (B' 19) (B' 20) (B' 21) (B' 22) (B' 23)) ∧ (¬ x = 2 → wY_block_35 post x 0 ((B' 5) ((G' 6)).toNatClampNeg) (G' 0) (G' 1) (G' 2) (G' 3) (G' 4) (G' 5) (G' 6) (G' 7) (G' 8) (G' 9) (G' 10) (G' 11) (G' 12) (G' 13) (G' 14) (G' 15) (G' 16) (G' 17) (G' 18) (B' 0) (B' 1) (B' 2) (B' 3) (B' 4) (B' 5) (B' 6) (B' 7) (B' 8) (B' 9) (B' 10) (B' 11) (B' 12) (B' 13) (B' 14) (B' 15) (B' 16) (B' 17) (B' 18) (B' 19) (B' 20) (B' 21) (B' 22) (B' 23))
    refine ⟨b1, ?_⟩
    rw [b2, b3]
    have J : ∀ wq : Nat, wq ≤ 1 → (if x = 2 then 1 else 0) = wq → wY_block_35 post x (nI wq) (nI (ss_Q (S n))) (G' 0) (G' 1) (G' 2) (G' 3) (G' 4) (G' 5) (G' 6) (G' 7) (G' 8) (G' 9) (G' 10) (G' 11) (G' 12) (G' 13) (G' 14) (G' 15) (G' 16) (G' 17) (G' 18) (B' 0) (B' 1) (B' 2) (B' 3) (B' 4) (B' 5) (B' 6) (B' 7) (B' 8) (B' 9) (B' 10) (B' 11) (B' 12) (B' 13) (B' 14) (B' 15) (B' 16) (B' 17) (B' 18) (B' 19) (B' 20) (B' 21) (B' 22) (B' 23) := by
      intro wq hwq ew
      unfold wY_block_35
      refine pk_eq (ss_Q (S n)) wq (fun hq => ?_) (fun hq => h2 G' B' f k (by rw [ew]; exact hq)) rfl rfl (by have := ss_Q6 hI; omega) (by omega)
      refine pk_eq (ss_O (S n)) 10 (fun h10 => ?_) (fun h10 => ?_) hA.1 rfl (by omega) (by omega)
      · exact yw_add1 (G := G') (B := B') (h4 G' B' f k (by rw [ew]; exact hq) (Or.inr h10))
      · exact yb_add0 (G' := G') (B' := B') hK f (fun hlt => h0 G' B' f k (by rw [ew]; exact hq) hlt h10) (fun hge => h4 G' B' f k (by rw [ew]; exact hq) (Or.inl hge))
    exact br_c (fun e2 => J 1 (by omega) (by rw [if_pos e2])) (fun e2 => J 0 (by omega) (by rw [if_neg e2]))
  · rintro (z | z | z) <;> rw [z] at c3 <;> exact absurd (by decide) c3
theorem ym_otherwise (hK : yb_K S n mw G B) (h2 : ∀ G' B', ys_fr G B G' B' → (ss_K (S n) (ss_O (S n)) ≠ 2 ∨ ss_Q (S n) ≠ 0) → post 2 (uv_Y G' B'))
    (h4 : ∀ G' B', ys_fr G B G' B' → ss_K (S n) (ss_O (S n)) = 2 → ss_Q (S n) = 0 → mw ≤ n → post 4 (uv_Y G' B'))
    (h0 : ∀ G' B', ys_fr G B G' B' → ss_K (S n) (ss_O (S n)) = 2 → ss_Q (S n) = 0 → n < mw → post 0 (uv_Y (uv_st G' 4 (nI (n + 1))) (uv_st (uv_st B' 0 (upd (B' 0) n 9)) 1 (upd (B' 1) n 0)))) : wpY_otherwise post (uv_Y G B) := by
  have hI := ss_I_S hK.1 n (Nat.le_refl _)
  have h96 := hK.2.2.1
  have hnm := hK.2.2.2.1
  unfold wpY_otherwise uv_Y
  refine ys_scan (G := G) (B := B) hK.1 (by omega) hK.2.2.2.2 (fun G' B' f hA => ?_)
  obtain ⟨b1, b2, b3, b4, b5⟩ := yb_A hI hA
  have cK := (hA.2.2.2.2.1 (ss_O (S n)) (Nat.le_refl _)).1
  show vp_in ((G' 5)) 11 ∧ ((B' 2) ((G' 5)).toNatClampNeg = 2 → (vp_in ((G' 6)) 11 ∧ (((B' 5) ((G' 6)).toNatClampNeg = 0 → wpY_add _ (uv_Y G' B') 9 0 0) ∧ (¬ (B' 5) ((G' 6)).toNatClampNeg = 0 → post 2 (uv_Y G' B'))))) ∧ (¬ (B' 2) ((G' 5)).toNatClampNeg = 2 → post 2 (uv_Y G' B'))
  refine ⟨b4, ?_⟩
  rw [b2, b3, b5, cK]
  refine br_c (fun hk => ⟨b1, ?_⟩) (fun hk => h2 G' B' f (Or.inl hk))
  refine pk_eq (ss_Q (S n)) 0 (fun hq => ?_) (fun hq => h2 G' B' f (Or.inr hq)) rfl rfl (by have := ss_Q6 hI; omega) (by omega)
  exact yb_add0 (G' := G') (B' := B') hK f (fun hlt => h0 G' B' f hk hq hlt) (fun hge => h4 G' B' f hk hq hge)
theorem ym_end (hK : yb_K S n mw G B) (h2 : ∀ G' B', ys_fr G B G' B' → (ss_O (S n) = 0 ∨ ss_Q (S n) ≠ 0) → post 2 (uv_Y G' B'))
    (h4 : ∀ G' B', ys_fr G B G' B' → ss_O (S n) ≠ 0 → ss_Q (S n) = 0 → mw ≤ n → post 4 (uv_Y G' B'))
    (h0 : ∀ G' B', ys_fr G B G' B' → ss_O (S n) ≠ 0 → ss_Q (S n) = 0 → n < mw → post 0 (uv_Y (uv_st G' 4 (nI (n + 1))) (uv_st (uv_st B' 0 (upd (B' 0) n 10)) 1 (upd (B' 1) n 0)))) : wpY_end post (uv_Y G B) := by
  have hI := ss_I_S hK.1 n (Nat.le_refl _)
  have h96 := hK.2.2.1
  have hnm := hK.2.2.2.1
  have hO := hI.1
  unfold wpY_end uv_Y
  refine ys_scan (G := G) (B := B) hK.1 (by omega) hK.2.2.2.2 (fun G' B' f hA => ?_)
  obtain ⟨b1, b2, b3, b4, b5⟩ := yb_A hI hA
  show ((G' 5) = 0 → post 2 (uv_Y G' B')) ∧ (¬ (G' 5) = 0 → (vp_in ((G' 6)) 11 ∧ (((B' 5) ((G' 6)).toNatClampNeg = 0 → wpY_add _ (uv_Y G' B') 10 0 0) ∧ (¬ (B' 5) ((G' 6)).toNatClampNeg = 0 → post 2 (uv_Y G' B')))))
  refine pk_eq (ss_O (S n)) 0 (fun z => h2 G' B' f (Or.inl z)) (fun z => ⟨b1, ?_⟩) hA.1 rfl (by omega) (by omega)
  rw [b2, b3]
  refine pk_eq (ss_Q (S n)) 0 (fun hq => ?_) (fun hq => h2 G' B' f (Or.inr hq)) rfl rfl (by have := ss_Q6 hI; omega) (by omega)
  exact yb_add0 (G' := G') (B' := B') hK f (fun hlt => h0 G' B' f z hq hlt) (fun hge => h4 G' B' f z hq hge)
end
end
section
/-! the building calls keep the relation -/
theorem ss_C80 {p : Nat} {s : ss_T} (h : ss_I p s) : ss_C s (ss_f s) ≤ 8 * ss_O s := by
  have := ss_C88 h (ss_f s) (ss_f_le s) (xc_f5 s)
  rw [xc_fdf] at this
  have := ss_fd_le (ss_K s) (ss_O s)
  omega
theorem ss_Ccf {p c : Nat} {s : ss_T} (h : ss_I p s) (h1 : 1 ≤ c) (h2 : c ≤ ss_O s) (h5 : ss_K s c = 5) : ss_C s c ≤ ss_C s (ss_f s) := by
  have := ss_fge h1 h2 h5
  by_cases e : c = ss_f s
  · rw [← e]; exact Nat.le_refl _
  · exact (h.2.2.2.2.2.2.2.1 c (ss_f s) h1 (by omega) (ss_f_le s)).2.1
section
variable {S : Nat → ss_T} {n : Nat} {N g : Nat → Nat} {uc nd cc fu ou : Nat} {EC : Nat → Nat → Int32} {F F' G G' : Nat → Int32} {A A' B B' : Nat → Nat → Int32}
theorem rr_new {k : Nat} {x y : Int32} {t : ss_T} {mw : Nat} (h : rr_B S n (fun _ => 0) N g uc nd cc fu ou EC F A G B) (f : ys_fr G B G' B') (hR : ss_R x y n (S n) t) (hmw : (F 24) = nI mw) (h96 : mw ≤ 96) (hlt : n < mw)
    (eF : ∀ i, (24 ≤ i ∧ i ≤ 27) ∨ (33 ≤ i ∧ i ≤ 39) → F' i = F i) (eA : ∀ i, 14 ≤ i ∧ i ≤ 23 → A' i = A i) (eW : (F' 28) = nI (n + 1))
    (hpg : pg_P (upd (B 0) n x) (upd (B 1) n y) (uv_st S (n + 1) t) (n + 1) (A' 0) (A' 1) (A' 2) (A' 3) (A' 4) (A' 5))
    (hxc : xc_S (uv_st S (n + 1) t) (n + 1) (F' 29) (F' 30) (F' 31) (F' 32) (A' 6) (A' 7) (A' 8) (A' 9) (A' 10) (A' 11) (A' 12) (A' 13)) :
    i_Rel k (uv_X F' A') (uv_Y (uv_st G' 4 (nI (n + 1))) (uv_st (uv_st B' 0 (upd (B' 0) n x)) 1 (upd (B' 1) n y))) := by
  have e0 : (B' 0) = (B 0) := f.2 0 (by omega)
  have e1 : (B' 1) = (B 1) := f.2 1 (by omega)
  rw [← e0, ← e1] at hpg
  exact ⟨F', A', _, _, rfl, rfl, uv_st S (n + 1) t, n + 1, N, g, uc, nd, cc, fu, ou, EC, rr_add (rr_scan h f) hR hmw h96 hlt eF eA eW hpg hxc⟩
end
theorem i_vc_number {k : Nat} {u : SX} {v : SY} (I : i_Rel k u v) (hk : k + 4 ≤ 2052) (v1 : Int32) : wpX_number (fun r u' => wpY_number (fun r' v' => r' = r ∧ i_Rel (k + 4) u' v') v v1) u v1 := by
  obtain ⟨F, A, G, B, rfl, rfl, S, n, N, g, uc, nd, cc, fu, ou, EC, h⟩ := I
  obtain ⟨mw, l1, l2, l3, l4, l5, l6, hK⟩ := rr_K h
  have hS := h.1
  have hI := ss_I_S hS n (Nat.le_refl _)
  have hY : yb_K S n mw G B := ⟨hS, l2, l3, l4, l6⟩
  have hx := h.2.2.2.1
  have hQ6 := ss_Q6 hI
  have keep : ∀ G' B', ys_fr G B G' B' → i_Rel (k + 4) (uv_X F A) (uv_Y G' B') := fun G' B' f => ⟨F, A, G', B', rfl, rfl, S, n, N, g, uc, nd, cc, fu, ou, EC, rr_scan h f⟩
  have keep0 : i_Rel (k + 4) (uv_X F A) (uv_Y G B) := ⟨F, A, G, B, rfl, rfl, S, n, N, g, uc, nd, cc, fu, ou, EC, h⟩
  refine xm_number hK (fun hf => ?_) (fun hlt hq => ?_)
  · exact ym_number hY (fun G' B' f _ => ⟨rfl, keep G' B' f⟩) (fun G' B' f hlt hq => by omega)
  · refine ym_number hY (fun G' B' f hz => by omega) (fun G' B' f _ _ => ⟨rfl, ?_⟩)
    have hR : ss_R 0 v1 n (S n) (ss_smp (S n) (ss_Q (S n) + 1)) := Or.inl ⟨rfl, hq, rfl⟩
    exact rr_new h f hR l1 l3 hlt (fun i hi => by repeat rw [uv_sn (by omega)]) (fun i hi => by repeat rw [uv_sn (by omega)]) rfl
      (pg_pl hS hR h.2.2.1 ⟨(fun _ => ⟨rfl, rfl, rfl⟩), (fun z => absurd z uv_n_0_1), (fun z => absurd z uv_n_0_2), (fun z => absurd z uv_n_0_3), (fun z => absurd z uv_n_0_4), (fun z => absurd z uv_n_0_5), (fun z => absurd z uv_n_0_6), (fun z => absurd z uv_n_0_7), (fun z => absurd z uv_n_0_8), (fun z => absurd z uv_n_0_9), (fun z => absurd z uv_n_0_10)⟩ (by decide) (by decide) (by decide) (fun z => absurd z (by decide)))
      (xc_smp hS (ss_ag_new (x := 0) (y := 0)) uv_se hx)
theorem i_vc_get {k : Nat} {u : SX} {v : SY} (I : i_Rel k u v) (hk : k + 4 ≤ 2052) (v1 : Int32) : wpX_get (fun r u' => wpY_get (fun r' v' => r' = r ∧ i_Rel (k + 4) u' v') v v1) u v1 := by
  obtain ⟨F, A, G, B, rfl, rfl, S, n, N, g, uc, nd, cc, fu, ou, EC, h⟩ := I
  obtain ⟨mw, l1, l2, l3, l4, l5, l6, hK⟩ := rr_K h
  have hS := h.1
  have hI := ss_I_S hS n (Nat.le_refl _)
  have hY : yb_K S n mw G B := ⟨hS, l2, l3, l4, l6⟩
  have hx := h.2.2.2.1
  have hQ6 := ss_Q6 hI
  have keep : ∀ G' B', ys_fr G B G' B' → i_Rel (k + 4) (uv_X F A) (uv_Y G' B') := fun G' B' f => ⟨F, A, G', B', rfl, rfl, S, n, N, g, uc, nd, cc, fu, ou, EC, rr_scan h f⟩
  have keep0 : i_Rel (k + 4) (uv_X F A) (uv_Y G B) := ⟨F, A, G, B, rfl, rfl, S, n, N, g, uc, nd, cc, fu, ou, EC, h⟩
  refine xm_get hS hx hK (fun hn => ?_) (fun hn hl => ?_) (fun hn hl hf => ?_) (fun hn hl hlt hq hc => ?_) (fun m0 ps' hm0 em hl hlt hq hc hps => ?_)
  · exact ym_get hY (fun _ => ⟨rfl, keep0⟩) (fun _ _ _ z => absurd z hn) (fun _ _ _ z => absurd z hn) (fun _ _ _ z => absurd z hn)
  · exact ym_get hY (fun z => absurd hn z) (fun G' B' f _ _ => ⟨rfl, keep G' B' f⟩) (fun _ _ _ _ z => absurd hl z) (fun _ _ _ _ z => absurd hl z)
  · exact ym_get hY (fun z => absurd hn z) (fun _ _ _ _ z => absurd z hl) (fun G' B' f _ _ _ => ⟨rfl, keep G' B' f⟩) (fun _ _ _ _ _ _ _ => by omega)
  · refine ym_get hY (fun z => absurd hn z) (fun _ _ _ _ z => absurd z hl) (fun G' B' f _ _ hz => by omega) (fun G' B' f _ _ _ _ => ⟨rfl, ?_⟩)
    have hR : ss_R 1 v1 n (S n) (ss_smp (S n) (ss_Q (S n) + 1)) := Or.inr (Or.inl ⟨rfl, hn, hl, hq, rfl⟩)
    exact rr_new h f hR l1 l3 hlt (fun i hi => by repeat rw [uv_sn (by omega)]) (fun i hi => by repeat rw [uv_sn (by omega)]) rfl
      (pg_pl hS hR h.2.2.1 ⟨(fun z => absurd z uv_n_1_0), (fun _ => ⟨rfl, fun _ => ⟨rfl, rfl⟩, fun z => by omega⟩), (fun z => absurd z uv_n_1_2), (fun z => absurd z uv_n_1_3), (fun z => absurd z uv_n_1_4), (fun z => absurd z uv_n_1_5), (fun z => absurd z uv_n_1_6), (fun z => absurd z uv_n_1_7), (fun z => absurd z uv_n_1_8), (fun z => absurd z uv_n_1_9), (fun z => absurd z uv_n_1_10)⟩ (by decide) (by decide) (by decide) (fun _ c c1 c2 c5 => by have := ss_Ccf hI c1 c2 c5; omega))
      (xc_smp hS (ss_ag_new (x := 0) (y := 0)) uv_se hx)
  · subst em
    refine ym_get hY (fun z => absurd ⟨m0, hm0, rfl⟩ z) (fun _ _ _ _ z => absurd z hl) (fun G' B' f _ _ hz => by omega) (fun G' B' f _ _ _ _ => ⟨rfl, ?_⟩)
    have hR : ss_R 1 (nI m0) n (S n) (ss_smp (S n) (ss_Q (S n) + 1)) := Or.inr (Or.inl ⟨rfl, ⟨m0, hm0, rfl⟩, hl, hq, rfl⟩)
    exact rr_new h f hR l1 l3 hlt (fun i hi => by repeat rw [uv_sn (by omega)]) (fun i hi => by repeat rw [uv_sn (by omega)]) rfl
      (pg_cp hm0 hS hR h.2.2.1 ⟨(fun z => absurd z uv_n_1_0), (fun _ => ⟨rfl, fun z => by omega, fun _ => ⟨rfl, rfl⟩⟩), (fun z => absurd z uv_n_1_2), (fun z => absurd z uv_n_1_3), (fun z => absurd z uv_n_1_4), (fun z => absurd z uv_n_1_5), (fun z => absurd z uv_n_1_6), (fun z => absurd z uv_n_1_7), (fun z => absurd z uv_n_1_8), (fun z => absurd z uv_n_1_9), (fun z => absurd z uv_n_1_10)⟩ (Or.inl rfl) hps)
      (xc_smp hS (ss_ag_new (x := 0) (y := 0)) uv_se hx)
theorem i_vc_op {k : Nat} {u : SX} {v : SY} (I : i_Rel k u v) (hk : k + 4 ≤ 2052) (v1 : Int32) : wpX_op (fun r u' => wpY_op (fun r' v' => r' = r ∧ i_Rel (k + 4) u' v') v v1) u v1 := by
  obtain ⟨F, A, G, B, rfl, rfl, S, n, N, g, uc, nd, cc, fu, ou, EC, h⟩ := I
  obtain ⟨mw, l1, l2, l3, l4, l5, l6, hK⟩ := rr_K h
  have hS := h.1
  have hI := ss_I_S hS n (Nat.le_refl _)
  have hY : yb_K S n mw G B := ⟨hS, l2, l3, l4, l6⟩
  have hx := h.2.2.2.1
  have hQ6 := ss_Q6 hI
  have keep : ∀ G' B', ys_fr G B G' B' → i_Rel (k + 4) (uv_X F A) (uv_Y G' B') := fun G' B' f => ⟨F, A, G', B', rfl, rfl, S, n, N, g, uc, nd, cc, fu, ou, EC, rr_scan h f⟩
  have keep0 : i_Rel (k + 4) (uv_X F A) (uv_Y G B) := ⟨F, A, G, B, rfl, rfl, S, n, N, g, uc, nd, cc, fu, ou, EC, h⟩
  refine xm_op hK (fun hn => ?_) (fun hn hq => ?_) (fun hn hq hf => ?_) (fun hn hq hlt => ?_)
  · exact ym_op hY (fun _ => ⟨rfl, keep0⟩) (fun _ _ _ z => absurd z hn) (fun _ _ _ z => absurd z hn) (fun _ _ _ z => absurd z hn)
  · exact ym_op hY (fun z => absurd hn z) (fun G' B' f _ _ => ⟨rfl, keep G' B' f⟩) (fun _ _ _ _ z => by omega) (fun _ _ _ _ z => by omega)
  · exact ym_op hY (fun z => absurd hn z) (fun _ _ _ _ z => by omega) (fun G' B' f _ _ _ => ⟨rfl, keep G' B' f⟩) (fun _ _ _ _ _ z => by omega)
  · refine ym_op hY (fun z => absurd hn z) (fun _ _ _ _ z => by omega) (fun G' B' f _ _ hz => by omega) (fun G' B' f _ _ _ => ⟨rfl, ?_⟩)
    have hR : ss_R 2 v1 n (S n) (ss_smp (S n) (ss_Q (S n) - 1)) := Or.inr (Or.inr (Or.inl ⟨rfl, hn, hq, rfl⟩))
    exact rr_new h f hR l1 l3 hlt (fun i hi => by repeat rw [uv_sn (by omega)]) (fun i hi => by repeat rw [uv_sn (by omega)]) rfl
      (pg_pl hS hR h.2.2.1 ⟨(fun z => absurd z uv_n_2_0), (fun z => absurd z uv_n_2_1), (fun _ => ⟨rfl, rfl, rfl⟩), (fun z => absurd z uv_n_2_3), (fun z => absurd z uv_n_2_4), (fun z => absurd z uv_n_2_5), (fun z => absurd z uv_n_2_6), (fun z => absurd z uv_n_2_7), (fun z => absurd z uv_n_2_8), (fun z => absurd z uv_n_2_9), (fun z => absurd z uv_n_2_10)⟩ (by decide) (by decide) (by decide) (fun z => absurd z (by decide)))
      (xc_smp hS (ss_ag_new (x := 0) (y := 0)) uv_se hx)
theorem i_vc_call {k : Nat} {u : SX} {v : SY} (I : i_Rel k u v) (hk : k + 4 ≤ 2052) : wpX_call (fun r u' => wpY_call (fun r' v' => r' = r ∧ i_Rel (k + 4) u' v') v) u := by
  obtain ⟨F, A, G, B, rfl, rfl, S, n, N, g, uc, nd, cc, fu, ou, EC, h⟩ := I
  obtain ⟨mw, l1, l2, l3, l4, l5, l6, hK⟩ := rr_K h
  have hS := h.1
  have hI := ss_I_S hS n (Nat.le_refl _)
  have hY : yb_K S n mw G B := ⟨hS, l2, l3, l4, l6⟩
  have hx := h.2.2.2.1
  have hQ6 := ss_Q6 hI
  have keep : ∀ G' B', ys_fr G B G' B' → i_Rel (k + 4) (uv_X F A) (uv_Y G' B') := fun G' B' f => ⟨F, A, G', B', rfl, rfl, S, n, N, g, uc, nd, cc, fu, ou, EC, rr_scan h f⟩
  have keep0 : i_Rel (k + 4) (uv_X F A) (uv_Y G B) := ⟨F, A, G, B, rfl, rfl, S, n, N, g, uc, nd, cc, fu, ou, EC, h⟩
  refine xm_call hK (fun hq => ?_) (fun hq hf => ?_) (fun hq hlt => ?_)
  · exact ym_call hY (fun G' B' f _ => ⟨rfl, keep G' B' f⟩) (fun _ _ _ z => by omega) (fun _ _ _ z => by omega)
  · exact ym_call hY (fun _ _ _ z => by omega) (fun G' B' f _ _ => ⟨rfl, keep G' B' f⟩) (fun _ _ _ _ z => by omega)
  · refine ym_call hY (fun _ _ _ z => by omega) (fun G' B' f _ hz => by omega) (fun G' B' f _ _ => ⟨rfl, ?_⟩)
    have hR : ss_R 3 0 n (S n) (ss_smp (S n) (ss_Q (S n) - 1)) := Or.inr (Or.inr (Or.inr (Or.inl ⟨rfl, hq, rfl⟩)))
    exact rr_new h f hR l1 l3 hlt (fun i hi => by repeat rw [uv_sn (by omega)]) (fun i hi => by repeat rw [uv_sn (by omega)]) rfl
      (pg_pl hS hR h.2.2.1 ⟨(fun z => absurd z uv_n_3_0), (fun z => absurd z uv_n_3_1), (fun z => absurd z uv_n_3_2), (fun _ => ⟨rfl, rfl⟩), (fun z => absurd z uv_n_3_4), (fun z => absurd z uv_n_3_5), (fun z => absurd z uv_n_3_6), (fun z => absurd z uv_n_3_7), (fun z => absurd z uv_n_3_8), (fun z => absurd z uv_n_3_9), (fun z => absurd z uv_n_3_10)⟩ (by decide) (by decide) (by decide) (fun z => absurd z (by decide)))
      (xc_smp hS (ss_ag_new (x := 0) (y := 0)) uv_se hx)
theorem i_vc_function {k : Nat} {u : SX} {v : SY} (I : i_Rel k u v) (hk : k + 4 ≤ 2052) (v1 : Int32) : wpX_function (fun r u' => wpY_function (fun r' v' => r' = r ∧ i_Rel (k + 4) u' v') v v1) u v1 := by
  obtain ⟨F, A, G, B, rfl, rfl, S, n, N, g, uc, nd, cc, fu, ou, EC, h⟩ := I
  obtain ⟨mw, l1, l2, l3, l4, l5, l6, hK⟩ := rr_K h
  have hS := h.1
  have hI := ss_I_S hS n (Nat.le_refl _)
  have hY : yb_K S n mw G B := ⟨hS, l2, l3, l4, l6⟩
  have hx := h.2.2.2.1
  have hQ6 := ss_Q6 hI
  have keep : ∀ G' B', ys_fr G B G' B' → i_Rel (k + 4) (uv_X F A) (uv_Y G' B') := fun G' B' f => ⟨F, A, G', B', rfl, rfl, S, n, N, g, uc, nd, cc, fu, ou, EC, rr_scan h f⟩
  have keep0 : i_Rel (k + 4) (uv_X F A) (uv_Y G B) := ⟨F, A, G, B, rfl, rfl, S, n, N, g, uc, nd, cc, fu, ou, EC, h⟩
  have hO := hI.1
  have hF := hI.2.1
  have hC80 := ss_C80 hI
  have hfO := ss_fd_le (ss_K (S n)) (ss_O (S n))
  have hV8 := hI.2.2.2.2.2.2.2.2
  refine xm_function hK hx.2.1 hO hx.1 hF (fun _ => by omega) (fun _ => by omega) (fun hn => ?_) (fun hn hf => ?_) (fun ps' hn hlt hq ho hfc hps => ?_)
  · exact ym_function hY (fun _ => ⟨rfl, keep0⟩) (fun _ _ _ z => absurd z hn) (fun _ _ _ z => absurd z hn)
  · exact ym_function hY (fun z => absurd hn z) (fun G' B' f _ _ => ⟨rfl, keep G' B' f⟩) (fun _ _ _ _ _ _ _ _ => by omega)
  · refine ym_function hY (fun z => absurd hn z) (fun G' B' f _ hz => by omega) (fun G' B' f _ _ _ _ _ => ⟨rfl, ?_⟩)
    have hR : ss_R 4 v1 n (S n) (ss_fun (S n) n v1) := Or.inr (Or.inr (Or.inr (Or.inr (Or.inl ⟨rfl, hn, hq, ho, hfc, rfl⟩))))
    have xc := xc_fun hS (ss_ag_new (x := 4) (y := v1) (k := (B 0)) (a := (B 1)) (t := ss_fun (S n) n v1)) uv_se hx
    rw [← l5, ← hx.2.2.2.1] at xc
    exact rr_new h f hR l1 l3 hlt (fun i hi => by repeat rw [uv_sn (by omega)]) (fun i hi => by repeat rw [uv_sn (by omega)]) rfl
      (pg_fn hS hR h.2.2.1 ⟨(fun z => absurd z uv_n_4_0), (fun z => absurd z uv_n_4_1), (fun z => absurd z uv_n_4_2), (fun z => absurd z uv_n_4_3), (fun _ => ⟨rfl, rfl, hx.1⟩), (fun z => absurd z uv_n_4_5), (fun z => absurd z uv_n_4_6), (fun z => absurd z uv_n_4_7), (fun z => absurd z uv_n_4_8), (fun z => absurd z uv_n_4_9), (fun z => absurd z uv_n_4_10)⟩ hps) xc
theorem i_vc_declare {k : Nat} {u : SX} {v : SY} (I : i_Rel k u v) (hk : k + 4 ≤ 2052) (v1 : Int32) : wpX_declare (fun r u' => wpY_declare (fun r' v' => r' = r ∧ i_Rel (k + 4) u' v') v v1) u v1 := by
  obtain ⟨F, A, G, B, rfl, rfl, S, n, N, g, uc, nd, cc, fu, ou, EC, h⟩ := I
  obtain ⟨mw, l1, l2, l3, l4, l5, l6, hK⟩ := rr_K h
  have hS := h.1
  have hI := ss_I_S hS n (Nat.le_refl _)
  have hY : yb_K S n mw G B := ⟨hS, l2, l3, l4, l6⟩
  have hx := h.2.2.2.1
  have hQ6 := ss_Q6 hI
  have keep : ∀ G' B', ys_fr G B G' B' → i_Rel (k + 4) (uv_X F A) (uv_Y G' B') := fun G' B' f => ⟨F, A, G', B', rfl, rfl, S, n, N, g, uc, nd, cc, fu, ou, EC, rr_scan h f⟩
  have keep0 : i_Rel (k + 4) (uv_X F A) (uv_Y G B) := ⟨F, A, G, B, rfl, rfl, S, n, N, g, uc, nd, cc, fu, ou, EC, h⟩
  have hO := hI.1
  have hL8 := ss_L8 hI
  have eL : ss_L (S n) = ss_V (S n) - ss_C (S n) (ss_f (S n)) := rfl
  have hC80 := ss_C80 hI
  have hCV := ss_I_cf hI
  refine xm_declare hK hL8 (fun _ => by omega) (fun hn => ?_) (fun hn hq => ?_) (fun hn hq hf => ?_) (fun hn hq hlt h8 => ?_)
  · exact ym_declare hY (fun _ => ⟨rfl, keep0⟩) (fun _ _ _ z => absurd z hn) (fun _ _ _ z => absurd z hn) (fun _ _ _ z => absurd z hn)
  · exact ym_declare hY (fun z => absurd hn z) (fun G' B' f _ _ => ⟨rfl, keep G' B' f⟩) (fun _ _ _ _ z => absurd z hq) (fun _ _ _ _ z => absurd z hq)
  · exact ym_declare hY (fun z => absurd hn z) (fun _ _ _ _ z => absurd hq z) (fun G' B' f _ _ _ => ⟨rfl, keep G' B' f⟩) (fun _ _ _ _ _ _ _ => by omega)
  · refine ym_declare hY (fun z => absurd hn z) (fun _ _ _ _ z => absurd hq z) (fun G' B' f _ _ hz => by omega) (fun G' B' f _ _ _ _ => ⟨rfl, ?_⟩)
    have hR : ss_R 5 v1 n (S n) (ss_dcl (S n) v1) := Or.inr (Or.inr (Or.inr (Or.inr (Or.inr (Or.inl ⟨rfl, hn, hq, h8, rfl⟩)))))
    have xc := xc_dcl hS (ss_ag_new (x := 5) (y := v1) (k := (B 0)) (a := (B 1)) (t := ss_dcl (S n) v1)) uv_se hx
    rw [← hx.2.2.1] at xc
    exact rr_new h f hR l1 l3 hlt (fun i hi => by repeat rw [uv_sn (by omega)]) (fun i hi => by repeat rw [uv_sn (by omega)]) rfl
      (pg_pl hS hR h.2.2.1 ⟨(fun z => absurd z uv_n_5_0), (fun z => absurd z uv_n_5_1), (fun z => absurd z uv_n_5_2), (fun z => absurd z uv_n_5_3), (fun z => absurd z uv_n_5_4), (fun _ => rfl), (fun z => absurd z uv_n_5_6), (fun z => absurd z uv_n_5_7), (fun z => absurd z uv_n_5_8), (fun z => absurd z uv_n_5_9), (fun z => absurd z uv_n_5_10)⟩ (by decide) (by decide) (by decide) (fun z => absurd z (by decide))) xc
theorem i_vc_assign {k : Nat} {u : SX} {v : SY} (I : i_Rel k u v) (hk : k + 4 ≤ 2052) (v1 : Int32) : wpX_assign (fun r u' => wpY_assign (fun r' v' => r' = r ∧ i_Rel (k + 4) u' v') v v1) u v1 := by
  obtain ⟨F, A, G, B, rfl, rfl, S, n, N, g, uc, nd, cc, fu, ou, EC, h⟩ := I
  obtain ⟨mw, l1, l2, l3, l4, l5, l6, hK⟩ := rr_K h
  have hS := h.1
  have hI := ss_I_S hS n (Nat.le_refl _)
  have hY : yb_K S n mw G B := ⟨hS, l2, l3, l4, l6⟩
  have hx := h.2.2.2.1
  have hQ6 := ss_Q6 hI
  have keep : ∀ G' B', ys_fr G B G' B' → i_Rel (k + 4) (uv_X F A) (uv_Y G' B') := fun G' B' f => ⟨F, A, G', B', rfl, rfl, S, n, N, g, uc, nd, cc, fu, ou, EC, rr_scan h f⟩
  have keep0 : i_Rel (k + 4) (uv_X F A) (uv_Y G B) := ⟨F, A, G, B, rfl, rfl, S, n, N, g, uc, nd, cc, fu, ou, EC, h⟩
  refine xm_assign hS hx hK (fun hn => ?_) (fun hn hq => ?_) (fun hn hq hl => ?_) (fun hn hq hl hf => ?_) (fun hn hq hl hlt hc => ?_) (fun m0 ps' hm0 em hq hl hlt hc hps => ?_)
  · exact ym_assign hY (fun _ => ⟨rfl, keep0⟩) (fun _ _ _ z => absurd z hn) (fun _ _ _ z => absurd z hn) (fun _ _ _ z => absurd z hn) (fun _ _ _ z => absurd z hn)
  · exact ym_assign hY (fun z => absurd hn z) (fun G' B' f _ _ => ⟨rfl, keep G' B' f⟩) (fun _ _ _ _ z => absurd z hq) (fun _ _ _ _ z => absurd z hq) (fun _ _ _ _ z => absurd z hq)
  · exact ym_assign hY (fun z => absurd hn z) (fun _ _ _ _ z => absurd hq z) (fun G' B' f _ _ _ => ⟨rfl, keep G' B' f⟩) (fun _ _ _ _ _ z => absurd hl z) (fun _ _ _ _ _ z => absurd hl z)
  · exact ym_assign hY (fun z => absurd hn z) (fun _ _ _ _ z => absurd hq z) (fun _ _ _ _ _ z => absurd z hl) (fun G' B' f _ _ _ _ => ⟨rfl, keep G' B' f⟩) (fun _ _ _ _ _ _ _ => by omega)
  · refine ym_assign hY (fun z => absurd hn z) (fun _ _ _ _ z => absurd hq z) (fun _ _ _ _ _ z => absurd z hl) (fun G' B' f _ _ _ hz => by omega) (fun G' B' f _ _ _ _ => ⟨rfl, ?_⟩)
    have hR : ss_R 6 v1 n (S n) (ss_smp (S n) 0) := Or.inr (Or.inr (Or.inr (Or.inr (Or.inr (Or.inr (Or.inl ⟨rfl, hn, hq, hl, rfl⟩))))))
    exact rr_new h f hR l1 l3 hlt (fun i hi => by repeat rw [uv_sn (by omega)]) (fun i hi => by repeat rw [uv_sn (by omega)]) rfl
      (pg_pl hS hR h.2.2.1 ⟨(fun z => absurd z uv_n_6_0), (fun z => absurd z uv_n_6_1), (fun z => absurd z uv_n_6_2), (fun z => absurd z uv_n_6_3), (fun z => absurd z uv_n_6_4), (fun z => absurd z uv_n_6_5), (fun _ => ⟨rfl, fun _ => ⟨rfl, rfl⟩, fun z => by omega⟩), (fun z => absurd z uv_n_6_7), (fun z => absurd z uv_n_6_8), (fun z => absurd z uv_n_6_9), (fun z => absurd z uv_n_6_10)⟩ (by decide) (by decide) (by decide) (fun _ c c1 c2 c5 => by have := ss_Ccf hI c1 c2 c5; omega))
      (xc_smp hS (ss_ag_new (x := 0) (y := 0)) uv_se hx)
  · subst em
    refine ym_assign hY (fun z => absurd ⟨m0, hm0, rfl⟩ z) (fun _ _ _ _ z => absurd hq z) (fun _ _ _ _ _ z => absurd z hl) (fun G' B' f _ _ _ hz => by omega) (fun G' B' f _ _ _ _ => ⟨rfl, ?_⟩)
    have hR : ss_R 6 (nI m0) n (S n) (ss_smp (S n) 0) := Or.inr (Or.inr (Or.inr (Or.inr (Or.inr (Or.inr (Or.inl ⟨rfl, ⟨m0, hm0, rfl⟩, hq, hl, rfl⟩))))))
    exact rr_new h f hR l1 l3 hlt (fun i hi => by repeat rw [uv_sn (by omega)]) (fun i hi => by repeat rw [uv_sn (by omega)]) rfl
      (pg_cp hm0 hS hR h.2.2.1 ⟨(fun z => absurd z uv_n_6_0), (fun z => absurd z uv_n_6_1), (fun z => absurd z uv_n_6_2), (fun z => absurd z uv_n_6_3), (fun z => absurd z uv_n_6_4), (fun z => absurd z uv_n_6_5), (fun _ => ⟨rfl, fun z => by omega, fun _ => ⟨rfl, rfl⟩⟩), (fun z => absurd z uv_n_6_7), (fun z => absurd z uv_n_6_8), (fun z => absurd z uv_n_6_9), (fun z => absurd z uv_n_6_10)⟩ (Or.inr rfl) hps)
      (xc_smp hS (ss_ag_new (x := 0) (y := 0)) uv_se hx)
end
section
/-! the building calls that open and close keep the relation -/
theorem i_vc_act {k : Nat} {u : SX} {v : SY} (I : i_Rel k u v) (hk : k + 4 ≤ 2052) (v1 : Int32) : wpX_act (fun r u' => wpY_act (fun r' v' => r' = r ∧ i_Rel (k + 4) u' v') v v1) u v1 := by
  obtain ⟨F, A, G, B, rfl, rfl, S, n, N, g, uc, nd, cc, fu, ou, EC, h⟩ := I
  obtain ⟨mw, l1, l2, l3, l4, l5, l6, hK⟩ := rr_K h
  have hS := h.1
  have hI := ss_I_S hS n (Nat.le_refl _)
  have hY : yb_K S n mw G B := ⟨hS, l2, l3, l4, l6⟩
  have hx := h.2.2.2.1
  have hQ6 := ss_Q6 hI
  have keep : ∀ G' B', ys_fr G B G' B' → i_Rel (k + 4) (uv_X F A) (uv_Y G' B') := fun G' B' f => ⟨F, A, G', B', rfl, rfl, S, n, N, g, uc, nd, cc, fu, ou, EC, rr_scan h f⟩
  have keep0 : i_Rel (k + 4) (uv_X F A) (uv_Y G B) := ⟨F, A, G, B, rfl, rfl, S, n, N, g, uc, nd, cc, fu, ou, EC, h⟩
  refine xm_act hS hx hK (fun hn => ?_) (fun hn hq => ?_) (fun hn hq hj hl => ?_) (fun hn hq hl hf => ?_) (fun hn hq hlt hj => ?_) (fun hn hq hlt hj hl => ?_)
  · exact ym_act hY (fun _ => ⟨rfl, keep0⟩) (fun _ _ _ z => absurd z hn) (fun _ _ _ z => absurd z hn) (fun _ _ _ z => absurd z hn)
  · exact ym_act hY (fun z => absurd hn z) (fun G' B' f _ _ => ⟨rfl, keep G' B' f⟩) (fun _ _ _ _ z => absurd z hq) (fun _ _ _ _ z => absurd z hq)
  · exact ym_act hY (fun z => absurd hn z) (fun G' B' f _ _ => ⟨rfl, keep G' B' f⟩) (fun _ _ _ _ _ z => absurd hl (z hj)) (fun _ _ _ _ _ z => absurd hl (z hj))
  · refine ym_act hY (fun z => absurd hn z) (fun G' B' f _ z => ?_) (fun G' B' f _ _ _ _ => ⟨rfl, keep G' B' f⟩) (fun _ _ _ _ _ _ _ => by omega)
    rcases z with z | z
    · exact absurd hq z
    · exact absurd z.2 (hl z.1)
  · refine ym_act hY (fun z => absurd hn z) (fun G' B' f _ z => ?_) (fun G' B' f _ _ _ hz => by omega) (fun G' B' f _ _ _ _ => ⟨rfl, ?_⟩)
    · rcases z with z | z
      · exact absurd hq z
      · exact absurd z.1 hj
    have hR : ss_R 7 v1 n (S n) (ss_smp (S n) 0) := Or.inr (Or.inr (Or.inr (Or.inr (Or.inr (Or.inr (Or.inr (Or.inl ⟨rfl, hn, hq, fun z => absurd z hj, rfl⟩)))))))
    exact rr_new h f hR l1 l3 hlt (fun i hi => by repeat rw [uv_sn (by omega)]) (fun i hi => by repeat rw [uv_sn (by omega)]) rfl
      (pg_pl hS hR h.2.2.1 ⟨(fun z => absurd z uv_n_7_0), (fun z => absurd z uv_n_7_1), (fun z => absurd z uv_n_7_2), (fun z => absurd z uv_n_7_3), (fun z => absurd z uv_n_7_4), (fun z => absurd z uv_n_7_5), (fun z => absurd z uv_n_7_6), (fun _ => ⟨rfl, fun e => by rw [e]; decide, fun e => by rw [e]; decide, fun e => by rw [e]; decide, fun z => absurd z hj⟩), (fun z => absurd z uv_n_7_8), (fun z => absurd z uv_n_7_9), (fun z => absurd z uv_n_7_10)⟩ (by decide) (by decide) (by decide) (fun z => absurd z (by decide)))
      (xc_smp hS (ss_ag_new (x := 0) (y := 0)) uv_se hx)
  · refine ym_act hY (fun z => absurd hn z) (fun G' B' f _ z => ?_) (fun G' B' f _ _ _ hz => by omega) (fun G' B' f _ _ _ _ => ⟨rfl, ?_⟩)
    · rcases z with z | z
      · exact absurd hq z
      · exact absurd z.2 hl
    have hR : ss_R 7 v1 n (S n) (ss_smp (S n) 0) := Or.inr (Or.inr (Or.inr (Or.inr (Or.inr (Or.inr (Or.inr (Or.inl ⟨rfl, hn, hq, fun _ => hl, rfl⟩)))))))
    exact rr_new h f hR l1 l3 hlt (fun i hi => by repeat rw [uv_sn (by omega)]) (fun i hi => by repeat rw [uv_sn (by omega)]) rfl
      (pg_pl hS hR h.2.2.1 ⟨(fun z => absurd z uv_n_7_0), (fun z => absurd z uv_n_7_1), (fun z => absurd z uv_n_7_2), (fun z => absurd z uv_n_7_3), (fun z => absurd z uv_n_7_4), (fun z => absurd z uv_n_7_5), (fun z => absurd z uv_n_7_6), (fun _ => ⟨rfl, fun e => by rcases hj with z | z <;> rw [z] at e <;> exact absurd e (by decide), fun e => by rcases hj with z | z <;> rw [z] at e <;> exact absurd e (by decide), fun e => by rcases hj with z | z <;> rw [z] at e <;> exact absurd e (by decide), fun _ => ⟨rfl, rfl, rfl⟩⟩), (fun z => absurd z uv_n_7_8), (fun z => absurd z uv_n_7_9), (fun z => absurd z uv_n_7_10)⟩ (by decide) (by decide) (by decide) (fun z => absurd z (by decide)))
      (xc_smp hS (ss_ag_new (x := 0) (y := 0)) uv_se hx)
theorem i_vc_block {k : Nat} {u : SX} {v : SY} (I : i_Rel k u v) (hk : k + 4 ≤ 2052) (v1 : Int32) : wpX_block (fun r u' => wpY_block (fun r' v' => r' = r ∧ i_Rel (k + 4) u' v') v v1) u v1 := by
  obtain ⟨F, A, G, B, rfl, rfl, S, n, N, g, uc, nd, cc, fu, ou, EC, h⟩ := I
  obtain ⟨mw, l1, l2, l3, l4, l5, l6, hK⟩ := rr_K h
  have hS := h.1
  have hI := ss_I_S hS n (Nat.le_refl _)
  have hY : yb_K S n mw G B := ⟨hS, l2, l3, l4, l6⟩
  have hx := h.2.2.2.1
  have hQ6 := ss_Q6 hI
  have keep : ∀ G' B', ys_fr G B G' B' → i_Rel (k + 4) (uv_X F A) (uv_Y G' B') := fun G' B' f => ⟨F, A, G', B', rfl, rfl, S, n, N, g, uc, nd, cc, fu, ou, EC, rr_scan h f⟩
  have keep0 : i_Rel (k + 4) (uv_X F A) (uv_Y G B) := ⟨F, A, G, B, rfl, rfl, S, n, N, g, uc, nd, cc, fu, ou, EC, h⟩
  have hO := hI.1
  refine xm_block hK hx.2.1 hO (fun hn => ?_) (fun hn hq => ?_) (fun hn hq hf => ?_) (fun hn hq hlt ho => ?_)
  · exact ym_block hY (fun _ => ⟨rfl, keep0⟩) (fun _ _ _ z => absurd z hn) (fun _ _ _ z => absurd z hn) (fun _ _ _ z => absurd z hn)
  · exact ym_block hY (fun z => absurd hn z) (fun G' B' f _ _ => ⟨rfl, keep G' B' f⟩) (fun _ _ _ _ z => absurd z hq) (fun _ _ _ _ z => absurd z hq)
  · exact ym_block hY (fun z => absurd hn z) (fun _ _ _ _ z => absurd hq z) (fun G' B' f _ _ _ => ⟨rfl, keep G' B' f⟩) (fun _ _ _ _ _ _ _ => by omega)
  · refine ym_block hY (fun z => absurd hn z) (fun _ _ _ _ z => absurd hq z) (fun G' B' f _ _ hz => by omega) (fun G' B' f _ _ _ _ => ⟨rfl, ?_⟩)
    have h5 : v1 ≠ 5 := by rcases hn with z | z | z <;> rw [z] <;> decide
    have hR : ss_R 8 v1 n (S n) (ss_blk (S n) n v1) := Or.inr (Or.inr (Or.inr (Or.inr (Or.inr (Or.inr (Or.inr (Or.inr (Or.inl ⟨rfl, hn, hq, ho, rfl⟩))))))))
    have xc := xc_blk h5 hS (ss_ag_new (x := 8) (y := v1) (k := (B 0)) (a := (B 1)) (t := ss_blk (S n) n v1)) uv_se hx
    rw [← l5, ← hx.2.2.2.1] at xc
    exact rr_new h f hR l1 l3 hlt (fun i hi => by repeat rw [uv_sn (by omega)]) (fun i hi => by repeat rw [uv_sn (by omega)]) rfl
      (pg_pl hS hR h.2.2.1 ⟨(fun z => absurd z uv_n_8_0), (fun z => absurd z uv_n_8_1), (fun z => absurd z uv_n_8_2), (fun z => absurd z uv_n_8_3), (fun z => absurd z uv_n_8_4), (fun z => absurd z uv_n_8_5), (fun z => absurd z uv_n_8_6), (fun z => absurd z uv_n_8_7), (fun _ => ⟨rfl, fun e => by rw [e]; decide, fun e => by rw [e]; decide, fun e => by rw [e]; decide⟩), (fun z => absurd z uv_n_8_9), (fun z => absurd z uv_n_8_10)⟩ (by decide) (by decide) (by decide) (fun z => absurd z (by decide))) xc
theorem i_vc_otherwise {k : Nat} {u : SX} {v : SY} (I : i_Rel k u v) (hk : k + 4 ≤ 2052) : wpX_otherwise (fun r u' => wpY_otherwise (fun r' v' => r' = r ∧ i_Rel (k + 4) u' v') v) u := by
  obtain ⟨F, A, G, B, rfl, rfl, S, n, N, g, uc, nd, cc, fu, ou, EC, h⟩ := I
  obtain ⟨mw, l1, l2, l3, l4, l5, l6, hK⟩ := rr_K h
  have hS := h.1
  have hI := ss_I_S hS n (Nat.le_refl _)
  have hY : yb_K S n mw G B := ⟨hS, l2, l3, l4, l6⟩
  have hx := h.2.2.2.1
  have hQ6 := ss_Q6 hI
  have keep : ∀ G' B', ys_fr G B G' B' → i_Rel (k + 4) (uv_X F A) (uv_Y G' B') := fun G' B' f => ⟨F, A, G', B', rfl, rfl, S, n, N, g, uc, nd, cc, fu, ou, EC, rr_scan h f⟩
  have keep0 : i_Rel (k + 4) (uv_X F A) (uv_Y G B) := ⟨F, A, G, B, rfl, rfl, S, n, N, g, uc, nd, cc, fu, ou, EC, h⟩
  have hO := hI.1
  have e1 : 1 ≤ ss_O (S n) → ss_O (S n) - 1 + 1 = ss_O (S n) := fun z => by omega
  have oK : 1 ≤ ss_O (S n) → (A 6) (ss_O (S n) - 1) = ss_K (S n) (ss_O (S n)) := fun z => by have := (hx.2.2.2.2.1 (ss_O (S n) - 1) (by omega)).1; rw [e1 z] at this; exact this
  have oW : 1 ≤ ss_O (S n) → (A 7) (ss_O (S n) - 1) = nI (ss_W (S n) (ss_O (S n))) := fun z => by have := (hx.2.2.2.2.1 (ss_O (S n) - 1) (by omega)).2.1; rw [e1 z] at this; exact this
  have oV : 1 ≤ ss_O (S n) → (A 8) (ss_O (S n) - 1) = nI (ss_C (S n) (ss_O (S n))) := fun z => by have := (hx.2.2.2.2.1 (ss_O (S n) - 1) (by omega)).2.2; rw [e1 z] at this; exact this
  have k0 : ss_K (S n) (ss_O (S n)) = 2 → 1 ≤ ss_O (S n) := fun z => by
    rcases Nat.eq_zero_or_pos (ss_O (S n)) with y | y
    · rw [y, hI.2.2.1] at z; exact absurd z (by decide)
    · exact y
  have cC : 1 ≤ ss_O (S n) → (A 6) (ss_O (S n) - 1) = 2 → ss_C (S n) (ss_f (S n)) ≤ ss_C (S n) (ss_O (S n)) := fun z k2 => by
    rw [oK z] at k2
    rcases Nat.eq_zero_or_pos (ss_f (S n)) with y | y
    · rw [y, hI.2.2.2.1]; omega
    · have hfl := ss_f_le (S n)
      by_cases e : ss_f (S n) = ss_O (S n)
      · rw [e]; exact Nat.le_refl _
      · exact (hI.2.2.2.2.2.2.2.1 (ss_f (S n)) (ss_O (S n)) y (by omega) (Nat.le_refl _)).2.1
  refine xm_otherwise (w := ss_W (S n) (ss_O (S n))) (cv := ss_C (S n) (ss_O (S n))) hK hx.2.1 hO oW (fun z => (hI.2.2.2.2.2.2.1 (ss_O (S n)) z (Nat.le_refl _)).1) oV cC (fun hz => ?_) (fun ho hk2 hq hf => ?_) (fun ho hk2 hq hlt => ?_)
  · refine ym_otherwise hY (fun G' B' f _ => ⟨rfl, keep G' B' f⟩) (fun _ _ _ z2 z3 => ?_) (fun _ _ _ z2 z3 => ?_)
    · have := k0 z2
      rcases hz with y | y | y
      · omega
      · exact absurd ((oK this).trans z2) y
      · exact absurd z3 y
    · have := k0 z2
      rcases hz with y | y | y
      · omega
      · exact absurd ((oK this).trans z2) y
      · exact absurd z3 y
  · have hk2' := (oK ho).symm.trans hk2
    refine ym_otherwise hY (fun G' B' f z => ?_) (fun G' B' f _ _ _ => ⟨rfl, keep G' B' f⟩) (fun _ _ _ _ _ _ => by omega)
    rcases z with z | z
    · exact absurd hk2' z
    · exact absurd hq z
  · have hk2' := (oK ho).symm.trans hk2
    refine ym_otherwise hY (fun G' B' f z => ?_) (fun G' B' f _ _ hz => by omega) (fun G' B' f _ _ _ => ⟨rfl, ?_⟩)
    · rcases z with z | z
      · exact absurd hk2' z
      · exact absurd hq z
    have hR : ss_R 9 0 n (S n) (ss_els (S n) n) := Or.inr (Or.inr (Or.inr (Or.inr (Or.inr (Or.inr (Or.inr (Or.inr (Or.inr (Or.inl ⟨rfl, rfl, ho, hk2', hq, rfl⟩)))))))))
    exact rr_new h f hR l1 l3 hlt (fun i hi => by repeat rw [uv_sn (by omega)]) (fun i hi => by repeat rw [uv_sn (by omega)]) rfl
      (pg_en hS hR h.2.2.1 ⟨(fun z => absurd z uv_n_9_0), (fun z => absurd z uv_n_9_1), (fun z => absurd z uv_n_9_2), (fun z => absurd z uv_n_9_3), (fun z => absurd z uv_n_9_4), (fun z => absurd z uv_n_9_5), (fun z => absurd z uv_n_9_6), (fun z => absurd z uv_n_9_7), (fun z => absurd z uv_n_9_8), (fun _ => ⟨rfl, rfl⟩), (fun z => absurd z uv_n_9_10)⟩ (Or.inl rfl) ho)
      (xc_els ho hk2' hS (ss_ag_new (x := 0) (y := 0)) uv_se hx)
theorem i_vc_end {k : Nat} {u : SX} {v : SY} (I : i_Rel k u v) (hk : k + 4 ≤ 2052) : wpX_end (fun r u' => wpY_end (fun r' v' => r' = r ∧ i_Rel (k + 4) u' v') v) u := by
  obtain ⟨F, A, G, B, rfl, rfl, S, n, N, g, uc, nd, cc, fu, ou, EC, h⟩ := I
  obtain ⟨mw, l1, l2, l3, l4, l5, l6, hK⟩ := rr_K h
  have hS := h.1
  have hI := ss_I_S hS n (Nat.le_refl _)
  have hY : yb_K S n mw G B := ⟨hS, l2, l3, l4, l6⟩
  have hx := h.2.2.2.1
  have hQ6 := ss_Q6 hI
  have keep : ∀ G' B', ys_fr G B G' B' → i_Rel (k + 4) (uv_X F A) (uv_Y G' B') := fun G' B' f => ⟨F, A, G', B', rfl, rfl, S, n, N, g, uc, nd, cc, fu, ou, EC, rr_scan h f⟩
  have keep0 : i_Rel (k + 4) (uv_X F A) (uv_Y G B) := ⟨F, A, G, B, rfl, rfl, S, n, N, g, uc, nd, cc, fu, ou, EC, h⟩
  have hO := hI.1
  have e1 : 1 ≤ ss_O (S n) → ss_O (S n) - 1 + 1 = ss_O (S n) := fun z => by omega
  have oK : 1 ≤ ss_O (S n) → (A 6) (ss_O (S n) - 1) = ss_K (S n) (ss_O (S n)) := fun z => by have := (hx.2.2.2.2.1 (ss_O (S n) - 1) (by omega)).1; rw [e1 z] at this; exact this
  have oW : 1 ≤ ss_O (S n) → (A 7) (ss_O (S n) - 1) = nI (ss_W (S n) (ss_O (S n))) := fun z => by have := (hx.2.2.2.2.1 (ss_O (S n) - 1) (by omega)).2.1; rw [e1 z] at this; exact this
  have oV : 1 ≤ ss_O (S n) → (A 8) (ss_O (S n) - 1) = nI (ss_C (S n) (ss_O (S n))) := fun z => by have := (hx.2.2.2.2.1 (ss_O (S n) - 1) (by omega)).2.2; rw [e1 z] at this; exact this
  have cC : 1 ≤ ss_O (S n) → ss_C (S n) (ss_f (S n)) ≤ ss_C (S n) (ss_O (S n)) := fun z => by
    rcases Nat.eq_zero_or_pos (ss_f (S n)) with y | y
    · rw [y, hI.2.2.2.1]; omega
    · have hfl := ss_f_le (S n)
      by_cases e : ss_f (S n) = ss_O (S n)
      · rw [e]; exact Nat.le_refl _
      · exact (hI.2.2.2.2.2.2.2.1 (ss_f (S n)) (ss_O (S n)) y (by omega) (Nat.le_refl _)).2.1
  have enf := fun (z : 1 ≤ ss_O (S n)) (k5 : ss_K (S n) (ss_O (S n)) = 5) => xc_enf z k5 hS (ss_ag_new (x := 0) (y := 0) (k := (B 0)) (a := (B 1)) (t := ss_enf (S n))) uv_se hx
  have d1 : 1 ≤ ss_O (S n) → ss_K (S n) (ss_O (S n)) = 5 → ss_fd (ss_K (S n)) (ss_O (S n)) - 1 = ss_fd (ss_K (S n)) (ss_O (S n) - 1) := fun z k5 => by have := (enf z k5).1; omega
  refine xm_end (w := ss_W (S n) (ss_O (S n))) (cv := ss_C (S n) (ss_O (S n))) (q' := ss_P (S n) (ss_fx (ss_K (S n)) (ss_O (S n) - 1))) hK hx.2.1 hO oW (fun z => (hI.2.2.2.2.2.2.1 (ss_O (S n)) z (Nat.le_refl _)).1) oV cC
    (fun z k5 => by have := (enf z ((oK z).symm.trans k5)).1; omega) (fun z k5 => by rw [d1 z ((oK z).symm.trans k5)]; exact (enf z ((oK z).symm.trans k5)).2.1) (fun hz => ?_) (fun ho hq hf => ?_) (fun ho hq hlt k5 => ?_) (fun ho hq hlt k3 => ?_) (fun ho hq hlt k5 k3 => ?_)
  · refine ym_end hY (fun G' B' f _ => ⟨rfl, keep G' B' f⟩) (fun _ _ _ z2 z3 => ?_) (fun _ _ _ z2 z3 => ?_)
    · rcases hz with y | y
      · exact absurd y z2
      · exact absurd z3 y
    · rcases hz with y | y
      · exact absurd y z2
      · exact absurd z3 y
  · refine ym_end hY (fun G' B' f z => ?_) (fun G' B' f _ _ _ => ⟨rfl, keep G' B' f⟩) (fun _ _ _ _ _ _ => by omega)
    rcases z with z | z
    · omega
    · exact absurd hq z
  · refine ym_end hY (fun G' B' f z => ?_) (fun G' B' f _ _ hz => by omega) (fun G' B' f _ _ _ => ⟨rfl, ?_⟩)
    · rcases z with z | z
      · omega
      · exact absurd hq z
    have k5' := (oK ho).symm.trans k5
    have hR : ss_R 10 0 n (S n) (ss_enf (S n)) := Or.inr (Or.inr (Or.inr (Or.inr (Or.inr (Or.inr (Or.inr (Or.inr (Or.inr (Or.inr ⟨rfl, ho, hq, Or.inl ⟨k5', rfl⟩⟩)))))))))
    rw [d1 ho k5']
    exact rr_new h f hR l1 l3 hlt (fun i hi => by repeat rw [uv_sn (by omega)]) (fun i hi => by repeat rw [uv_sn (by omega)]) rfl
      (pg_en hS hR h.2.2.1 ⟨(fun z => absurd z uv_n_10_0), (fun z => absurd z uv_n_10_1), (fun z => absurd z uv_n_10_2), (fun z => absurd z uv_n_10_3), (fun z => absurd z uv_n_10_4), (fun z => absurd z uv_n_10_5), (fun z => absurd z uv_n_10_6), (fun z => absurd z uv_n_10_7), (fun z => absurd z uv_n_10_8), (fun z => absurd z uv_n_10_9), (fun _ => ⟨fun _ => rfl, fun z => absurd (k5'.symm.trans z) (by decide), fun z => absurd k5' z⟩)⟩ (Or.inr rfl) ho)
      (enf ho k5').2.2
  · refine ym_end hY (fun G' B' f z => ?_) (fun G' B' f _ _ hz => by omega) (fun G' B' f _ _ _ => ⟨rfl, ?_⟩)
    · rcases z with z | z
      · omega
      · exact absurd hq z
    have k3' := (oK ho).symm.trans k3
    have k5' : ss_K (S n) (ss_O (S n)) ≠ 5 := by rw [k3']; decide
    have hR : ss_R 10 0 n (S n) (ss_enb (S n)) := Or.inr (Or.inr (Or.inr (Or.inr (Or.inr (Or.inr (Or.inr (Or.inr (Or.inr (Or.inr ⟨rfl, ho, hq, Or.inr ⟨k5', rfl⟩⟩)))))))))
    exact rr_new h f hR l1 l3 hlt (fun i hi => by repeat rw [uv_sn (by omega)]) (fun i hi => by repeat rw [uv_sn (by omega)]) rfl
      (pg_en hS hR h.2.2.1 ⟨(fun z => absurd z uv_n_10_0), (fun z => absurd z uv_n_10_1), (fun z => absurd z uv_n_10_2), (fun z => absurd z uv_n_10_3), (fun z => absurd z uv_n_10_4), (fun z => absurd z uv_n_10_5), (fun z => absurd z uv_n_10_6), (fun z => absurd z uv_n_10_7), (fun z => absurd z uv_n_10_8), (fun z => absurd z uv_n_10_9), (fun _ => ⟨fun z => absurd z k5', fun _ => ⟨rfl, rfl, rfl⟩, fun _ z => absurd k3' z⟩)⟩ (Or.inr rfl) ho)
      (xc_enb ho k5' hS (ss_ag_new (x := 0) (y := 0)) uv_se hx)
  · refine ym_end hY (fun G' B' f z => ?_) (fun G' B' f _ _ hz => by omega) (fun G' B' f _ _ _ => ⟨rfl, ?_⟩)
    · rcases z with z | z
      · omega
      · exact absurd hq z
    have k5' : ss_K (S n) (ss_O (S n)) ≠ 5 := fun z => k5 ((oK ho).trans z)
    have k3' : ss_K (S n) (ss_O (S n)) ≠ 3 := fun z => k3 ((oK ho).trans z)
    have hR : ss_R 10 0 n (S n) (ss_enb (S n)) := Or.inr (Or.inr (Or.inr (Or.inr (Or.inr (Or.inr (Or.inr (Or.inr (Or.inr (Or.inr ⟨rfl, ho, hq, Or.inr ⟨k5', rfl⟩⟩)))))))))
    exact rr_new h f hR l1 l3 hlt (fun i hi => by repeat rw [uv_sn (by omega)]) (fun i hi => by repeat rw [uv_sn (by omega)]) rfl
      (pg_en hS hR h.2.2.1 ⟨(fun z => absurd z uv_n_10_0), (fun z => absurd z uv_n_10_1), (fun z => absurd z uv_n_10_2), (fun z => absurd z uv_n_10_3), (fun z => absurd z uv_n_10_4), (fun z => absurd z uv_n_10_5), (fun z => absurd z uv_n_10_6), (fun z => absurd z uv_n_10_7), (fun z => absurd z uv_n_10_8), (fun z => absurd z uv_n_10_9), (fun _ => ⟨fun z => absurd z k5', fun z => absurd z k3', fun _ _ => ⟨rfl, rfl⟩⟩)⟩ (Or.inr rfl) ho)
      (xc_enb ho k5' hS (ss_ag_new (x := 0) (y := 0)) uv_se hx)
end
section
/-! the session's relation under the changes of a step -/
section
variable {S : Nat → ss_T} {n : Nat} {rn rn' N g g' : Nat → Nat} {uc nd cc fu fu' ou : Nat} {EC : Nat → Nat → Int32} {F F' G G' : Nat → Int32} {A A' B B' : Nat → Nat → Int32}
theorem rr_B_up (h : rr_B S n rn N g uc nd cc fu ou EC F A G B) (eF : ∀ i, (24 ≤ i ∧ i ≤ 33) ∨ i = 37 ∨ i = 38 → F' i = F i) (eA : ∀ i, i ≤ 17 → A' i = A i)
    (eG : ∀ i, i ≤ 4 ∨ i = 9 ∨ i = 13 ∨ i = 14 → G' i = G i) (eB : ∀ i, i ≤ 1 ∨ (8 ≤ i ∧ i ≤ 12) ∨ i = 15 → B' i = B i) (f1 : (F' 36) = nI fu') (f2 : (G' 12) = nI fu') (f3 : fu' ≤ fu)
    (r1 : (F' 34) = (G' 10)) (r2 : (F' 35) = (G' 11))
    (H' : hp_H rn' N g' uc nd (F' 39) (A' 18) (A' 19) (A' 20) (A' 21) (A' 22) (A' 23) (B' 13) (B' 14)) (hv : ∀ v, v < nd → rr_v cc ((B' 13) v) ((B' 14) v)) :
    rr_B S n rn' N g' uc nd cc fu' ou EC F' A' G' B' := by
  obtain ⟨h1, h2, h3, h4, h5, ⟨n1, n2, n3, n4, n5, n6, n7, n8, n9, n10, n11, n12⟩, h7, h8, h9⟩ := h
  unfold rr_L at h2
  unfold rr_B rr_L rr_N
  rw [eF 24 (by omega), eF 25 (by omega), eF 26 (by omega), eF 27 (by omega), eF 28 (by omega), eF 29 (by omega), eF 30 (by omega), eF 31 (by omega), eF 32 (by omega), eF 33 (by omega), eF 37 (by omega), eF 38 (by omega),
    eA 0 (by omega), eA 1 (by omega), eA 2 (by omega), eA 3 (by omega), eA 4 (by omega), eA 5 (by omega), eA 6 (by omega), eA 7 (by omega), eA 8 (by omega), eA 9 (by omega), eA 10 (by omega), eA 11 (by omega), eA 12 (by omega), eA 13 (by omega), eA 14 (by omega), eA 15 (by omega), eA 16 (by omega), eA 17 (by omega),
    eG 0 (by omega), eG 1 (by omega), eG 2 (by omega), eG 3 (by omega), eG 4 (by omega), eG 9 (by omega), eG 13 (by omega), eG 14 (by omega),
    eB 0 (by omega), eB 1 (by omega), eB 8 (by omega), eB 9 (by omega), eB 10 (by omega), eB 11 (by omega), eB 12 (by omega), eB 15 (by omega)]
  exact ⟨h1, h2, h3, h4, H', ⟨n1, n2, by omega, n4, n5, f1, f2, n8, n9, n10, r1, r2⟩, h7, hv, h9⟩
theorem rr_B_node {x y z e : Int32} (h : rr_B S n rn N g uc nd cc fu ou EC F A G B) (eF : ∀ i, (24 ≤ i ∧ i ≤ 35) ∨ i = 37 ∨ i = 38 → F' i = F i) (eA : ∀ i, i ≤ 17 → A' i = A i)
    (eG : ∀ i, i ≤ 4 ∨ (9 ≤ i ∧ i ≤ 11) ∨ i = 13 → G' i = G i) (eB : ∀ i, i ≤ 1 ∨ (8 ≤ i ∧ i ≤ 11) → B' i = B i) (f1 : (F' 36) = nI fu') (f2 : (G' 12) = nI fu') (f3 : fu' + 1 ≤ fu)
    (g1 : (G' 14) = nI (nd + 1)) (b1 : (B' 12) = upd (B 12) nd x) (b2 : (B' 15) = upd (B 15) nd e) (b3 : (B' 13) = upd (B 13) nd y) (b4 : (B' 14) = upd (B 14) nd z) (hyz : rr_v cc y z)
    (H' : hp_H rn' N g' uc (nd + 1) (F' 39) (A' 18) (A' 19) (A' 20) (A' 21) (A' 22) (A' 23) (B' 13) (B' 14)) :
    rr_B S n rn' N g' uc (nd + 1) cc fu' ou EC F' A' G' B' := by
  obtain ⟨h1, h2, h3, h4, h5, ⟨n1, n2, n3, n4, n5, n6, n7, n8, n9, n10, n11, n12⟩, h7, h8, h9⟩ := h
  unfold rr_L at h2
  unfold rr_B rr_L rr_N
  rw [eF 24 (by omega), eF 25 (by omega), eF 26 (by omega), eF 27 (by omega), eF 28 (by omega), eF 29 (by omega), eF 30 (by omega), eF 31 (by omega), eF 32 (by omega), eF 33 (by omega), eF 34 (by omega), eF 35 (by omega), eF 37 (by omega), eF 38 (by omega),
    eA 0 (by omega), eA 1 (by omega), eA 2 (by omega), eA 3 (by omega), eA 4 (by omega), eA 5 (by omega), eA 6 (by omega), eA 7 (by omega), eA 8 (by omega), eA 9 (by omega), eA 10 (by omega), eA 11 (by omega), eA 12 (by omega), eA 13 (by omega), eA 14 (by omega), eA 15 (by omega), eA 16 (by omega), eA 17 (by omega),
    eG 0 (by omega), eG 1 (by omega), eG 2 (by omega), eG 3 (by omega), eG 4 (by omega), eG 9 (by omega), eG 10 (by omega), eG 11 (by omega), eG 13 (by omega),
    eB 0 (by omega), eB 1 (by omega), eB 8 (by omega), eB 9 (by omega), eB 10 (by omega), eB 11 (by omega)]
  refine ⟨h1, h2, h3, h4, H', ⟨n1, g1, by omega, n4, n5, f1, f2, n8, n9, n10, n11, n12⟩, h7, fun v hv => ?_, fun t ht => ?_⟩
  · rw [b3, b4]
    by_cases c : v = nd
    · rw [c, pk_us, pk_us]; exact hyz
    · rw [pk_un c, pk_un c]; exact h8 v (by omega)
  · refine rr_C_up (h9 t ht) (Nat.le_refl _) (fun _ _ => rfl) (by omega) (fun v hv => ?_) (fun _ _ => rfl)
    rw [b1, b2, pk_un (by omega), pk_un (by omega)]; exact ⟨rfl, rfl⟩
theorem rr_B_out {x y : Int32} (h : rr_B S n rn N g uc nd cc fu ou EC F A G B) (ho : ou < 24) (eF : ∀ i, (24 ≤ i ∧ i ≤ 32) ∨ (34 ≤ i ∧ i ≤ 39) → F' i = F i) (eA : ∀ i, i ≠ 14 → i ≠ 15 → i ≤ 23 → A' i = A i)
    (eG : ∀ i, i ≤ 4 ∨ (10 ≤ i ∧ i ≤ 14) → G' i = G i) (eB : ∀ i, i ≤ 1 ∨ (10 ≤ i ∧ i ≤ 15) → B' i = B i) (f1 : (F' 33) = nI (ou + 1)) (f2 : (G' 9) = nI (ou + 1))
    (a1 : (A' 14) = upd (A 14) ou x) (a2 : (A' 15) = upd (A 15) ou y) (b1 : (B' 8) = upd (B 8) ou x) (b2 : (B' 9) = upd (B 9) ou y) (hxy : rr_v cc x y) :
    rr_B S n rn N g uc nd cc fu (ou + 1) EC F' A' G' B' := by
  obtain ⟨h1, h2, h3, h4, h5, ⟨n1, n2, n3, n4, n5, n6, n7, n8, n9, n10, n11, n12⟩, h7, h8, h9⟩ := h
  unfold rr_L at h2
  unfold rr_B rr_L rr_N rr_O
  rw [eF 24 (by omega), eF 25 (by omega), eF 26 (by omega), eF 27 (by omega), eF 28 (by omega), eF 29 (by omega), eF 30 (by omega), eF 31 (by omega), eF 32 (by omega), eF 34 (by omega), eF 35 (by omega), eF 36 (by omega), eF 37 (by omega), eF 38 (by omega), eF 39 (by omega),
    eA 0 (by omega) (by omega) (by omega), eA 1 (by omega) (by omega) (by omega), eA 2 (by omega) (by omega) (by omega), eA 3 (by omega) (by omega) (by omega), eA 4 (by omega) (by omega) (by omega), eA 5 (by omega) (by omega) (by omega), eA 6 (by omega) (by omega) (by omega), eA 7 (by omega) (by omega) (by omega), eA 8 (by omega) (by omega) (by omega), eA 9 (by omega) (by omega) (by omega), eA 10 (by omega) (by omega) (by omega), eA 11 (by omega) (by omega) (by omega), eA 12 (by omega) (by omega) (by omega), eA 13 (by omega) (by omega) (by omega), eA 16 (by omega) (by omega) (by omega), eA 17 (by omega) (by omega) (by omega), eA 18 (by omega) (by omega) (by omega), eA 19 (by omega) (by omega) (by omega), eA 20 (by omega) (by omega) (by omega), eA 21 (by omega) (by omega) (by omega), eA 22 (by omega) (by omega) (by omega), eA 23 (by omega) (by omega) (by omega),
    eG 0 (by omega), eG 1 (by omega), eG 2 (by omega), eG 3 (by omega), eG 4 (by omega), eG 10 (by omega), eG 11 (by omega), eG 12 (by omega), eG 13 (by omega), eG 14 (by omega),
    eB 0 (by omega), eB 1 (by omega), eB 10 (by omega), eB 11 (by omega), eB 12 (by omega), eB 13 (by omega), eB 14 (by omega), eB 15 (by omega)]
  refine ⟨h1, h2, h3, h4, h5, ⟨n1, n2, n3, n4, n5, n6, n7, f1, f2, ho, n11, n12⟩, fun i hi => ?_, h8, h9⟩
  rw [a1, a2, b1, b2]
  by_cases c : i = ou
  · rw [c, pk_us, pk_us, pk_us, pk_us]; exact ⟨rfl, rfl, hxy⟩
  · rw [pk_un c, pk_un c, pk_un c, pk_un c]; exact h7 i (by omega)
end
/-! frames: the frame on top changes, those below stay -/
section
variable {S : Nat → ss_T} {n : Nat} {rn rn' : Nat → Nat} {nd nd' cc cc' : Nat} {EC EC' : Nat → Nat → Int32} {top : Nat} {pcs bas oo : Nat → Nat} {slf : Nat → Int32} {EE : Nat → Nat → Int32} {F F' G G' : Nat → Int32} {A B A' B' : Nat → Nat → Int32}
theorem rr_F_bas (h : rr_F S n rn nd cc EC top pcs bas oo slf EE F A G B) : ∀ c, c < top → bas (c + 1) ≤ bas top := by
  obtain ⟨g1, g2, g3, g4, g5, g6, g7, g8, g9, g10, g11⟩ := h
  intro c hc
  have mono : ∀ d, c + 1 + d ≤ top → bas (c + 1) ≤ bas (c + 1 + d) := by
    intro d
    induction d with
    | zero => intro _; exact Nat.le_refl _
    | succ d ih =>
      intro hd
      have := ih (by omega)
      have h8 := (g11 (c + 1 + d) (by omega)).2.2.2.2.2.2.2 (by omega)
      have e : c + 1 + (d + 1) = c + 1 + d + 1 := by omega
      rw [e]; omega
  have := mono (top - (c + 1)) (by omega)
  rw [show c + 1 + (top - (c + 1)) = top by omega] at this
  exact this
theorem rr_F_up {p q : Nat} {E' : Nat → Int32} (hS : ∀ p, p ≤ n → ss_I p (S p)) (h : rr_F S n rn nd cc EC top pcs bas oo slf EE F A G B)
    (f1 : (G' 15) = (G 15)) (f2 : (F' 43) = (F 43)) (f3 : (F' 44) = (F 44)) (f4 : (G' 16) = (G 16)) (f5 : (F' 40) = nI p) (f6 : (F' 41) = (F 41)) (f7 : (F' 42) = (F 42))
    (f8 : (A' 24) = (A 24)) (f9 : (A' 25) = (A 25)) (f10 : (A' 26) = (A 26))
    (b1 : ∀ c, c < top → (B' 16) c = (B 16) c ∧ (B' 17) c = (B 17) c ∧ (B' 18) c = (B 18) c ∧ (B' 19) c = (B 19) c)
    (b2 : ∀ i, i < top * 10 → (B' 22) i = (B 22) i ∧ (B' 23) i = (B 23) i) (ho : ∀ i, i < top * 6 → (B' 20) i = (B 20) i ∧ (B' 21) i = (B 21) i)
    (hr : ∀ r, r < bas top → rn r = 0 → (A' 22) r = (A 22) r ∧ (A' 23) r = (A 23) r) (hn : ∀ r, r < bas top → rn' r = rn r)
    (hnd : nd ≤ nd') (hnp : ∀ v, v < nd → (B' 15) v = (B 15) v ∧ (B' 12) v = (B 12) v)
    (hcc : cc ≤ cc') (hcl : ∀ t, t < cc → (B' 10) t = (B 10) t ∧ EC' t = EC t)
    (ht : ∀ r, bas top + ss_L (S p) ≤ r → rn' r = 0) (t1 : p ≤ n) (t2 : (B' 16) top = nI p) (t4 : fr_Z S n (S p) cc' E' EC' (slf top) (B' 10))
    (t5 : fr_Y (S p) top q E' nd' (B' 17) (B' 18) (B' 19) (B' 22) (B' 23) (B' 15) (B' 12)) (t6 : fr_X (S p) top q (bas top) cc' E' rn' (B' 20) (B' 21) (A' 22) (A' 23)) (t7 : q = ss_Q (S p)) :
    rr_F S n rn' nd' cc' EC' top (uv_st pcs top p) bas (uv_st oo top q) slf (uv_st EE top E') F' A' G' B' := by
  have hb := rr_F_bas h
  obtain ⟨g1, g2, g3, g4, g5, g6, g7, g8, g9, g10, g11⟩ := h
  refine ⟨g1, by rw [f1]; exact g2, by rw [f2]; exact g3, by rw [f3]; exact g4, by rw [f4]; exact g5, by rw [uv_se]; exact f5, by rw [f6]; exact g7, by rw [f7]; exact g8, ?_, ?_, ?_⟩
  · intro c hc
    rw [f8, f9, f10, uv_sn (by omega)]; exact g9 c hc
  · rw [uv_se]; exact ht
  · intro c hc
    by_cases e : c = top
    · subst e
      have h3 := (g11 c (Nat.le_refl _)).2.2.1
      unfold rr_f
      rw [uv_se, uv_se, uv_se, if_pos rfl]
      exact ⟨t1, t2, h3, t4, t5, t6, t7, fun z => by omega⟩
    · have hlt : c < top := by omega
      have hpc := (g11 c hc).1
      have hbc := hb c hlt
      refine rr_f_low (hS (pcs c) hpc) (g11 c hc) hlt hlt (uv_sn e) rfl rfl (uv_sn e) rfl (uv_sn e) (b1 c hlt) ?_ ?_ ?_ ?_ hnd hnp hcc hcl
      · intro i hi; exact b2 _ (by omega)
      · intro i hi; exact ho _ (by omega)
      · intro r hr1 hr2; exact hr r (by omega) hr2
      · intro r hr1; exact hn r (by omega)
end
end
section
/-! the component's steps: no upvalues -/
def xs_H (F : Nat → Int32) (A : Nat → Nat → Int32) (n p r : Nat) : Prop := (F 40) = nI p ∧ (F 28) = nI n ∧ p < n ∧ n ≤ 96 ∧ (F 41) + (A 1) p = nI r
/-- the answer of an operation on kinds and values; none: wrong kind -/
def uv_op (k xk x yk y : Int32) : Option Int32 :=
  if k = 4 then some (if xk = yk ∧ x = y then 1 else 0) else if xk = 0 ∧ yk = 0 then some (if k = 0 then x + y else if k = 1 then x - y else if k = 2 then x * y else if y ≤ x then 0 else 1) else none
section
variable {F : Nat → Int32} {A : Nat → Nat → Int32} {n p r q : Nat} {x y : Int32}
theorem xw_setReg {post : SX → Prop} {R : Int32} (hR : R = nI r) (hr : r < 176) (h : post (uv_X F (uv_st (uv_st A 22 (upd (A 22) r x)) 23 (upd (A 23) r y)))) : wpX_setRegister post (uv_X F A) R x y := by
  subst hR
  have i1 : vp_in (nI r) 176 := vp_in_nI hr (by omega)
  have i2 : (nI r).toNatClampNeg = r := nI_clamp (by omega)
  unfold wpX_setRegister uv_X
  exact ⟨i1, nm_r (e' := upd (A 22) r x) (by rw [i2]) ⟨i1, nm_r (e' := upd (A 23) r y) (by rw [i2]) h⟩⟩
theorem xs_0 {post : Int32 → SX → Prop} (hH : xs_H F A n p r) (hc : (A 0) p = 0) (hr : r < 176) (h : post 0 (uv_X (uv_st F 40 (nI (p + 1))) (uv_st (uv_st A 22 (upd (A 22) r 0)) 23 (upd (A 23) r ((A 2) p))))) : wpX_step post (uv_X F A) := by
  have i1 : vp_in ((F 40)) 96 := by rw [hH.1]; exact vp_in_nI (by have := hH.2.2.1; have := hH.2.2.2.1; omega) (by omega)
  have i2 : ((F 40)).toNatClampNeg = p := by rw [hH.1]; exact nI_clamp (by have := hH.2.2.1; have := hH.2.2.2.1; omega)
  unfold wpX_step uv_X
  refine br_f (by rw [hH.1]; exact nI_pos (by have := hH.2.2.1; have := hH.2.2.2.1; omega)) <| br_t (by rw [hH.1, hH.2.1]; exact nI_lt hH.2.2.1 (by have := hH.2.2.2.1; omega)) <| nm_r (e' := nI (p + 1)) (by rw [hH.1]; exact nI_1 p) ⟨i1, nm_r (e' := nI r) (by rw [i2]; exact hH.2.2.2.2) ⟨i1, nm_r (e' := (A 2) p) (by rw [i2]) ⟨i1, nm_r (e' := 0) (by rw [i2]; exact hc) <| br_f (by decide) <| br_f (by decide) <| br_t rfl ?_⟩⟩⟩
  exact xw_setReg (F := (uv_st F 40 (nI (p + 1)))) (A := A) rfl hr h
theorem xs_1 {post : Int32 → SX → Prop} (hH : xs_H F A n p r) (hc : (A 0) p = 1) (hr : r < 176) (hq : (F 41) + (A 2) p = nI q) (hq2 : q < 176)
    (h : post 0 (uv_X (uv_st F 40 (nI (p + 1))) (uv_st (uv_st A 22 (upd (A 22) r ((A 22) q))) 23 (upd (A 23) r ((A 23) q))))) : wpX_step post (uv_X F A) := by
  have i1 : vp_in ((F 40)) 96 := by rw [hH.1]; exact vp_in_nI (by have := hH.2.2.1; have := hH.2.2.2.1; omega) (by omega)
  have i2 : ((F 40)).toNatClampNeg = p := by rw [hH.1]; exact nI_clamp (by have := hH.2.2.1; have := hH.2.2.2.1; omega)
  unfold wpX_step uv_X
  refine br_f (by rw [hH.1]; exact nI_pos (by have := hH.2.2.1; have := hH.2.2.2.1; omega)) <| br_t (by rw [hH.1, hH.2.1]; exact nI_lt hH.2.2.1 (by have := hH.2.2.2.1; omega)) <| nm_r (e' := nI (p + 1)) (by rw [hH.1]; exact nI_1 p) ⟨i1, nm_r (e' := nI r) (by rw [i2]; exact hH.2.2.2.2) ⟨i1, nm_r (e' := (A 2) p) (by rw [i2]) ⟨i1, nm_r (e' := 1) (by rw [i2]; exact hc) <| br_f (by decide) <| br_f (by decide) <| br_f uv_n_1_0 <| br_t rfl ?_⟩⟩⟩
  have j1 : vp_in ((F 41) + (A 2) p) 176 := by rw [hq]; exact vp_in_nI hq2 (by omega)
  have j2 : ((F 41) + (A 2) p).toNatClampNeg = q := by rw [hq]; exact nI_clamp (by omega)
  refine ⟨j1, j1, ?_⟩
  rw [j2]
  exact xw_setReg (F := (uv_st F 40 (nI (p + 1)))) (A := A) rfl hr h
theorem xs_7 {post : Int32 → SX → Prop} (hH : xs_H F A n p r) (hc : (A 0) p = 7) (hr : r < 176) (hq : (F 41) + (A 2) p = nI q) (hq2 : q < 176)
    (h : post 0 (uv_X (uv_st F 40 (nI (p + 1))) (uv_st (uv_st A 22 (upd (A 22) q ((A 22) r))) 23 (upd (A 23) q ((A 23) r))))) : wpX_step post (uv_X F A) := by
  have i1 : vp_in ((F 40)) 96 := by rw [hH.1]; exact vp_in_nI (by have := hH.2.2.1; have := hH.2.2.2.1; omega) (by omega)
  have i2 : ((F 40)).toNatClampNeg = p := by rw [hH.1]; exact nI_clamp (by have := hH.2.2.1; have := hH.2.2.2.1; omega)
  unfold wpX_step uv_X
  refine br_f (by rw [hH.1]; exact nI_pos (by have := hH.2.2.1; have := hH.2.2.2.1; omega)) <| br_t (by rw [hH.1, hH.2.1]; exact nI_lt hH.2.2.1 (by have := hH.2.2.2.1; omega)) <| nm_r (e' := nI (p + 1)) (by rw [hH.1]; exact nI_1 p) ⟨i1, nm_r (e' := nI r) (by rw [i2]; exact hH.2.2.2.2) ⟨i1, nm_r (e' := (A 2) p) (by rw [i2]) ⟨i1, nm_r (e' := 7) (by rw [i2]; exact hc) <| br_f (by decide) <| br_f (by decide) <| br_f uv_n_7_0 <| br_f uv_n_7_1 <| br_f uv_n_7_2 <| br_f uv_n_7_3 <| br_f uv_n_7_4 <| br_f uv_n_7_5 <| br_f uv_n_7_6 <| br_t rfl ?_⟩⟩⟩
  have j1 : vp_in (nI r) 176 := vp_in_nI hr (by omega)
  have j2 : (nI r).toNatClampNeg = r := nI_clamp (by omega)
  refine ⟨j1, j1, ?_⟩
  rw [j2]
  exact xw_setReg (F := (uv_st F 40 (nI (p + 1)))) (A := A) hq hq2 h
theorem xs_9 {post : Int32 → SX → Prop} (hH : xs_H F A n p r) (hc : (A 0) p = 9) (h : post 0 (uv_X (uv_st F 40 (nI (p + 1))) A)) : wpX_step post (uv_X F A) := by
  have i1 : vp_in ((F 40)) 96 := by rw [hH.1]; exact vp_in_nI (by have := hH.2.2.1; have := hH.2.2.2.1; omega) (by omega)
  have i2 : ((F 40)).toNatClampNeg = p := by rw [hH.1]; exact nI_clamp (by have := hH.2.2.1; have := hH.2.2.2.1; omega)
  unfold wpX_step uv_X
  refine br_f (by rw [hH.1]; exact nI_pos (by have := hH.2.2.1; have := hH.2.2.2.1; omega)) <| br_t (by rw [hH.1, hH.2.1]; exact nI_lt hH.2.2.1 (by have := hH.2.2.2.1; omega)) <| nm_r (e' := nI (p + 1)) (by rw [hH.1]; exact nI_1 p) ⟨i1, nm_r (e' := nI r) (by rw [i2]; exact hH.2.2.2.2) ⟨i1, nm_r (e' := (A 2) p) (by rw [i2]) ⟨i1, nm_r (e' := 9) (by rw [i2]; exact hc) <| br_f (by decide) <| br_f (by decide) <| br_f uv_n_9_0 <| br_f uv_n_9_1 <| br_f uv_n_9_2 <| br_f uv_n_9_3 <| br_f uv_n_9_4 <| br_f uv_n_9_5 <| br_f uv_n_9_6 <| br_f uv_n_9_7 <| br_f uv_n_9_8 <| br_t rfl ?_⟩⟩⟩
  unfold wX_step_301 wpX_stepBlock
  exact ⟨i1, nm_r (e' := 9) (by rw [i2]; exact hc) <| br_t (by decide) h⟩
theorem xs_14 {post : Int32 → SX → Prop} (hH : xs_H F A n p r) (hc : (A 0) p = 14) (h : post 0 (uv_X (uv_st F 40 (nI (p + 1))) A)) : wpX_step post (uv_X F A) := by
  have i1 : vp_in ((F 40)) 96 := by rw [hH.1]; exact vp_in_nI (by have := hH.2.2.1; have := hH.2.2.2.1; omega) (by omega)
  have i2 : ((F 40)).toNatClampNeg = p := by rw [hH.1]; exact nI_clamp (by have := hH.2.2.1; have := hH.2.2.2.1; omega)
  unfold wpX_step uv_X
  refine br_f (by rw [hH.1]; exact nI_pos (by have := hH.2.2.1; have := hH.2.2.2.1; omega)) <| br_t (by rw [hH.1, hH.2.1]; exact nI_lt hH.2.2.1 (by have := hH.2.2.2.1; omega)) <| nm_r (e' := nI (p + 1)) (by rw [hH.1]; exact nI_1 p) ⟨i1, nm_r (e' := nI r) (by rw [i2]; exact hH.2.2.2.2) ⟨i1, nm_r (e' := (A 2) p) (by rw [i2]) ⟨i1, nm_r (e' := 14) (by rw [i2]; exact hc) <| br_f (by decide) <| br_f (by decide) <| br_f uv_n_14_0 <| br_f uv_n_14_1 <| br_f uv_n_14_2 <| br_f uv_n_14_3 <| br_f uv_n_14_4 <| br_f uv_n_14_5 <| br_f uv_n_14_6 <| br_f uv_n_14_7 <| br_f uv_n_14_8 <| br_f uv_n_14_9 <| br_f uv_n_14_10 <| br_f uv_n_14_11 <| br_f uv_n_14_12 <| br_f uv_n_14_13 <| br_t rfl ?_⟩⟩⟩
  unfold wX_step_301 wpX_stepBlock
  refine ⟨i1, nm_r (e' := 14) (by rw [i2]; exact hc) <| br_f (by decide) <| br_f (by decide) <| br_f uv_n_14_12 <| br_f uv_n_14_13 <| br_t rfl ?_⟩
  exact h
theorem xw_op {post : Int32 → SX → Prop} {k : Int32} (hr : r + 1 < 176) (h1 : ∀ v, uv_op k ((A 22) r) ((A 23) r) ((A 22) (r + 1)) ((A 23) (r + 1)) = some v → post 0 (uv_X F (uv_st (uv_st A 22 (upd (A 22) r 0)) 23 (upd (A 23) r v))))
    (h2 : uv_op k ((A 22) r) ((A 23) r) ((A 22) (r + 1)) ((A 23) (r + 1)) = none → post 5 (uv_X F A)) : wpX_operate post (uv_X F A) (nI r) k := by
  have j1 : vp_in (nI r) 176 := vp_in_nI (by omega) (by omega)
  have j2 : (nI r).toNatClampNeg = r := nI_clamp (by omega)
  have j3 : vp_in (nI r + 1) 176 := by rw [nI_1]; exact vp_in_nI (by omega) (by omega)
  have j4 : (nI r + 1).toNatClampNeg = r + 1 := by rw [nI_1]; exact nI_clamp (by omega)
  unfold uv_op at h1 h2
  unfold wpX_operate uv_X
  refine ⟨j1, nm_r (e' := (A 23) r) (by rw [j2]) ⟨j3, nm_r (e' := (A 23) (r + 1)) (by rw [j4]) <| br_c (fun e4 => ⟨j1, j3, ?_⟩) (fun e4 => ⟨j1, ?_⟩)⟩⟩
  · rw [if_pos e4] at h1
    rw [j2, j4]
    refine br_c (fun ek => br_c (fun ev => ?_) (fun ev => ?_)) (fun ek => ?_)
    · rw [if_pos ⟨ek, ev⟩] at h1
      exact br_f (by decide) (xw_setReg (F := F) (A := A) rfl (by omega) (h1 1 rfl))
    · rw [if_neg (fun z => ev z.2)] at h1
      exact br_t rfl (xw_setReg (F := F) (A := A) rfl (by omega) (h1 0 rfl))
    · rw [if_neg (fun z => ek z.1)] at h1
      exact br_t rfl (xw_setReg (F := F) (A := A) rfl (by omega) (h1 0 rfl))
  · rw [if_neg e4] at h1 h2
    rw [j2]
    refine br_c (fun k1 => ⟨j3, ?_⟩) (fun k1 => h2 (by rw [if_neg (fun z => k1 z.1)]))
    rw [j4]
    refine br_c (fun k2 => ?_) (fun k2 => h2 (by rw [if_neg (fun z => k2 z.2)]))
    rw [if_pos ⟨k1, k2⟩] at h1
    refine br_c (fun e => nm_e ?_) (fun e => br_c (fun e1 => nm_e ?_) (fun e1 => br_c (fun e2 => nm_e ?_) (fun e2 => br_c (fun el => ?_) (fun el => ?_))))
    · rw [if_pos e] at h1
      exact xw_setReg (F := F) (A := A) rfl (by omega) (h1 _ rfl)
    · rw [if_neg e, if_pos e1] at h1
      exact xw_setReg (F := F) (A := A) rfl (by omega) (h1 _ rfl)
    · rw [if_neg e, if_neg e1, if_pos e2] at h1
      exact xw_setReg (F := F) (A := A) rfl (by omega) (h1 _ rfl)
    · rw [if_neg e, if_neg e1, if_neg e2, if_pos el] at h1
      exact xw_setReg (F := F) (A := A) rfl (by omega) (h1 _ rfl)
    · rw [if_neg e, if_neg e1, if_neg e2, if_neg el] at h1
      exact xw_setReg (F := F) (A := A) rfl (by omega) (h1 _ rfl)
theorem xs_3 {post : Int32 → SX → Prop} (hH : xs_H F A n p r) (hc : (A 0) p = 3) (hr : r + 1 < 176)
    (h1 : ∀ v, uv_op ((A 2) p) ((A 22) r) ((A 23) r) ((A 22) (r + 1)) ((A 23) (r + 1)) = some v → post 0 (uv_X (uv_st F 40 (nI (p + 1))) (uv_st (uv_st A 22 (upd (A 22) r 0)) 23 (upd (A 23) r v))))
    (h2 : uv_op ((A 2) p) ((A 22) r) ((A 23) r) ((A 22) (r + 1)) ((A 23) (r + 1)) = none → post 5 (uv_X (uv_st F 40 (nI (p + 1))) A)) : wpX_step post (uv_X F A) := by
  have i1 : vp_in ((F 40)) 96 := by rw [hH.1]; exact vp_in_nI (by have := hH.2.2.1; have := hH.2.2.2.1; omega) (by omega)
  have i2 : ((F 40)).toNatClampNeg = p := by rw [hH.1]; exact nI_clamp (by have := hH.2.2.1; have := hH.2.2.2.1; omega)
  unfold wpX_step uv_X
  refine br_f (by rw [hH.1]; exact nI_pos (by have := hH.2.2.1; have := hH.2.2.2.1; omega)) <| br_t (by rw [hH.1, hH.2.1]; exact nI_lt hH.2.2.1 (by have := hH.2.2.2.1; omega)) <| nm_r (e' := nI (p + 1)) (by rw [hH.1]; exact nI_1 p) ⟨i1, nm_r (e' := nI r) (by rw [i2]; exact hH.2.2.2.2) ⟨i1, nm_r (e' := (A 2) p) (by rw [i2]) ⟨i1, nm_r (e' := 3) (by rw [i2]; exact hc) <| br_f (by decide) <| br_f (by decide) <| br_f uv_n_3_0 <| br_f uv_n_3_1 <| br_f uv_n_3_2 <| br_t rfl ?_⟩⟩⟩
  exact xw_op (F := (uv_st F 40 (nI (p + 1)))) (A := A) hr h1 h2
theorem xw_spend {post : Int32 → SX → Prop} {fu : Nat} (hf : (F 36) = nI fu) (hfu : fu < 1000) (h0 : fu = 0 → post 8 (uv_X F A)) (h1 : ∀ f, fu = f + 1 → post 0 (uv_X (uv_st F 36 (nI f)) A)) : wpX_spend post (uv_X F A) := by
  unfold wpX_spend uv_X
  refine pk_lt 0 fu (fun h => ?_) (fun h => h0 (by omega)) rfl hf (by omega) (by omega)
  exact nm_r (e' := nI (fu - 1)) (by rw [hf]; exact uv_m1 (by omega)) (h1 (fu - 1) (by omega))
theorem xs_6 {post : Int32 → SX → Prop} {fu : Nat} (hH : xs_H F A n p r) (hc : (A 0) p = 6) (hf : (F 36) = nI fu) (hfu : fu < 1000)
    (h0 : fu = 0 → post 8 (uv_X (uv_st F 40 (nI (p + 1))) A)) (h1 : ∀ f, fu = f + 1 → post 0 (uv_X (uv_st (uv_st F 40 (nI (p + 1))) 36 (nI f)) A)) : wpX_step post (uv_X F A) := by
  have i1 : vp_in ((F 40)) 96 := by rw [hH.1]; exact vp_in_nI (by have := hH.2.2.1; have := hH.2.2.2.1; omega) (by omega)
  have i2 : ((F 40)).toNatClampNeg = p := by rw [hH.1]; exact nI_clamp (by have := hH.2.2.1; have := hH.2.2.2.1; omega)
  unfold wpX_step uv_X
  refine br_f (by rw [hH.1]; exact nI_pos (by have := hH.2.2.1; have := hH.2.2.2.1; omega)) <| br_t (by rw [hH.1, hH.2.1]; exact nI_lt hH.2.2.1 (by have := hH.2.2.2.1; omega)) <| nm_r (e' := nI (p + 1)) (by rw [hH.1]; exact nI_1 p) ⟨i1, nm_r (e' := nI r) (by rw [i2]; exact hH.2.2.2.2) ⟨i1, nm_r (e' := (A 2) p) (by rw [i2]) ⟨i1, nm_r (e' := 6) (by rw [i2]; exact hc) <| br_f (by decide) <| br_f (by decide) <| br_f uv_n_6_0 <| br_f uv_n_6_1 <| br_f uv_n_6_2 <| br_f uv_n_6_3 <| br_f uv_n_6_4 <| br_f uv_n_6_5 <| br_t rfl ?_⟩⟩⟩
  exact xw_spend (F := (uv_st F 40 (nI (p + 1)))) (A := A) hf hfu h0 h1
theorem xs_16 {post : Int32 → SX → Prop} {fu : Nat} (hH : xs_H F A n p r) (hc : (A 0) p = 16) (hf : (F 36) = nI fu) (hfu : fu < 1000)
    (h0 : fu = 0 → post 8 (uv_X (uv_st F 40 (nI (p + 1))) A)) (h1 : ∀ f, fu = f + 1 → post 0 (uv_X (uv_st (uv_st F 40 (nI (p + 1))) 36 (nI f)) A)) : wpX_step post (uv_X F A) := by
  have i1 : vp_in ((F 40)) 96 := by rw [hH.1]; exact vp_in_nI (by have := hH.2.2.1; have := hH.2.2.2.1; omega) (by omega)
  have i2 : ((F 40)).toNatClampNeg = p := by rw [hH.1]; exact nI_clamp (by have := hH.2.2.1; have := hH.2.2.2.1; omega)
  unfold wpX_step uv_X
  refine br_f (by rw [hH.1]; exact nI_pos (by have := hH.2.2.1; have := hH.2.2.2.1; omega)) <| br_t (by rw [hH.1, hH.2.1]; exact nI_lt hH.2.2.1 (by have := hH.2.2.2.1; omega)) <| nm_r (e' := nI (p + 1)) (by rw [hH.1]; exact nI_1 p) ⟨i1, nm_r (e' := nI r) (by rw [i2]; exact hH.2.2.2.2) ⟨i1, nm_r (e' := (A 2) p) (by rw [i2]) ⟨i1, nm_r (e' := 16) (by rw [i2]; exact hc) <| br_f (by decide) <| br_f (by decide) <| br_f uv_n_16_0 <| br_f uv_n_16_1 <| br_f uv_n_16_2 <| br_f uv_n_16_3 <| br_f uv_n_16_4 <| br_f uv_n_16_5 <| br_f uv_n_16_6 <| br_f uv_n_16_7 <| br_f uv_n_16_8 <| br_f uv_n_16_9 <| br_f uv_n_16_10 <| br_f uv_n_16_11 <| br_f uv_n_16_12 <| br_f uv_n_16_13 <| br_f uv_n_16_14 <| br_f uv_n_16_15 <| br_t rfl ?_⟩⟩⟩
  unfold wX_step_301 wpX_stepBlock
  refine ⟨i1, nm_r (e' := 16) (by rw [i2]; exact hc) <| br_f (by decide) <| br_f (by decide) <| br_f uv_n_16_12 <| br_f uv_n_16_13 <| br_f uv_n_16_14 <| br_f uv_n_16_15 <| br_t rfl ?_⟩
  exact xw_spend (F := (uv_st F 40 (nI (p + 1)))) (A := A) hf hfu h0 h1
theorem xs_10 {post : Int32 → SX → Prop} {ou : Nat} (hH : xs_H F A n p r) (hc : (A 0) p = 10) (hr : r < 176) (ho : (F 33) = nI ou) (ho2 : ou ≤ 24)
    (h0 : ou = 24 → post 10 (uv_X (uv_st F 40 (nI (p + 1))) A)) (h1 : ou < 24 → post 0 (uv_X (uv_st (uv_st F 40 (nI (p + 1))) 33 (nI (ou + 1))) (uv_st (uv_st A 14 (upd (A 14) ou ((A 22) r))) 15 (upd (A 15) ou ((A 23) r))))) : wpX_step post (uv_X F A) := by
  have i1 : vp_in ((F 40)) 96 := by rw [hH.1]; exact vp_in_nI (by have := hH.2.2.1; have := hH.2.2.2.1; omega) (by omega)
  have i2 : ((F 40)).toNatClampNeg = p := by rw [hH.1]; exact nI_clamp (by have := hH.2.2.1; have := hH.2.2.2.1; omega)
  unfold wpX_step uv_X
  refine br_f (by rw [hH.1]; exact nI_pos (by have := hH.2.2.1; have := hH.2.2.2.1; omega)) <| br_t (by rw [hH.1, hH.2.1]; exact nI_lt hH.2.2.1 (by have := hH.2.2.2.1; omega)) <| nm_r (e' := nI (p + 1)) (by rw [hH.1]; exact nI_1 p) ⟨i1, nm_r (e' := nI r) (by rw [i2]; exact hH.2.2.2.2) ⟨i1, nm_r (e' := (A 2) p) (by rw [i2]) ⟨i1, nm_r (e' := 10) (by rw [i2]; exact hc) <| br_f (by decide) <| br_f (by decide) <| br_f uv_n_10_0 <| br_f uv_n_10_1 <| br_f uv_n_10_2 <| br_f uv_n_10_3 <| br_f uv_n_10_4 <| br_f uv_n_10_5 <| br_f uv_n_10_6 <| br_f uv_n_10_7 <| br_f uv_n_10_8 <| br_f uv_n_10_9 <| br_t rfl ?_⟩⟩⟩
  have j1 : vp_in (nI r) 176 := vp_in_nI hr (by omega)
  have j2 : (nI r).toNatClampNeg = r := nI_clamp (by omega)
  unfold wpX_emitOutput
  refine pk_lt ou 24 (fun h => ?_) (fun h => h0 (by omega)) ho rfl (by omega) (by omega)
  have j3 : vp_in ((F 33)) 24 := by rw [ho]; exact vp_in_nI h (by omega)
  have j4 : ((F 33)).toNatClampNeg = ou := by rw [ho]; exact nI_clamp (by omega)
  exact ⟨j1, j3, nm_r (e' := upd (A 14) ou ((A 22) r)) (by rw [j2, j4]) ⟨j1, j3, nm_r (e' := upd (A 15) ou ((A 23) r)) (by rw [j2, j4]) <| nm_r (e' := nI (ou + 1)) (by rw [ho]; exact nI_1 ou) (h1 h)⟩⟩
theorem xw_true {post : Int32 → Prop} (hr : r < 176) (h0 : (A 22) r = 0 → (A 23) r = 0 → post 0) (h1 : ¬ ((A 22) r = 0 ∧ (A 23) r = 0) → post 1) : wpX_isTrue post (uv_X F A) (nI r) := by
  have j1 : vp_in (nI r) 176 := vp_in_nI hr (by omega)
  have j2 : (nI r).toNatClampNeg = r := nI_clamp (by omega)
  unfold wpX_isTrue uv_X
  refine ⟨j1, ?_⟩
  rw [j2]
  exact br_c (fun k => ⟨j1, br_c (fun v => h0 k v) (fun v => h1 (fun z => v z.2))⟩) (fun k => h1 (fun z => k z.1))
theorem xs_15 {post : Int32 → SX → Prop} (hH : xs_H F A n p r) (hc : (A 0) p = 15) (hr : r < 176)
    (h0 : (A 22) r = 0 → (A 23) r = 0 → post 0 (uv_X (uv_st F 40 ((A 3) p)) A)) (h1 : ¬ ((A 22) r = 0 ∧ (A 23) r = 0) → post 0 (uv_X (uv_st F 40 (nI (p + 1))) A)) : wpX_step post (uv_X F A) := by
  have i1 : vp_in ((F 40)) 96 := by rw [hH.1]; exact vp_in_nI (by have := hH.2.2.1; have := hH.2.2.2.1; omega) (by omega)
  have i2 : ((F 40)).toNatClampNeg = p := by rw [hH.1]; exact nI_clamp (by have := hH.2.2.1; have := hH.2.2.2.1; omega)
  unfold wpX_step uv_X
  refine br_f (by rw [hH.1]; exact nI_pos (by have := hH.2.2.1; have := hH.2.2.2.1; omega)) <| br_t (by rw [hH.1, hH.2.1]; exact nI_lt hH.2.2.1 (by have := hH.2.2.2.1; omega)) <| nm_r (e' := nI (p + 1)) (by rw [hH.1]; exact nI_1 p) ⟨i1, nm_r (e' := nI r) (by rw [i2]; exact hH.2.2.2.2) ⟨i1, nm_r (e' := (A 2) p) (by rw [i2]) ⟨i1, nm_r (e' := 15) (by rw [i2]; exact hc) <| br_f (by decide) <| br_f (by decide) <| br_f uv_n_15_0 <| br_f uv_n_15_1 <| br_f uv_n_15_2 <| br_f uv_n_15_3 <| br_f uv_n_15_4 <| br_f uv_n_15_5 <| br_f uv_n_15_6 <| br_f uv_n_15_7 <| br_f uv_n_15_8 <| br_f uv_n_15_9 <| br_f uv_n_15_10 <| br_f uv_n_15_11 <| br_f uv_n_15_12 <| br_f uv_n_15_13 <| br_f uv_n_15_14 <| br_t rfl ?_⟩⟩⟩
  unfold wX_step_301 wpX_stepBlock
  refine ⟨i1, nm_r (e' := 15) (by rw [i2]; exact hc) <| br_f (by decide) <| br_f (by decide) <| br_f uv_n_15_12 <| br_f uv_n_15_13 <| br_f uv_n_15_14 <| br_t rfl ?_⟩
  refine xw_true (F := (uv_st F 40 (nI (p + 1)))) (A := A) hr (fun a b => br_t rfl ⟨i1, nm_r (e' := (A 3) p) (by rw [i2]) (h0 a b)⟩) (fun a => br_f (by decide) (h1 a))
/-- enterCall -/
theorem xs_4 {post : Int32 → SX → Prop} {fu top md t : Nat} (hH : xs_H F A n p r) (hc : (A 0) p = 4) (hr : r + 1 < 176) (hf : (F 36) = nI fu) (hfu : fu < 1000) (hfr : (F 43) = nI (top + 1)) (htop : top < 12) (hmd : (F 26) = nI md) (hmd2 : md ≤ 12)
    (ht : (A 22) r = 1 → (A 23) r = nI t ∧ t < 32) (hp1 : (A 22) r = 1 → vp_in ((A 16) t) 16)
    (h6 : (A 22) r ≠ 1 → post 6 (uv_X (uv_st F 40 (nI (p + 1))) A)) (h7 : (A 22) r = 1 → md ≤ top + 1 → post 7 (uv_X (uv_st F 40 (nI (p + 1))) A)) (h8 : (A 22) r = 1 → top + 1 < md → fu = 0 → post 8 (uv_X (uv_st F 40 (nI (p + 1))) A))
    (h0 : ∀ f, (A 22) r = 1 → top + 1 < md → fu = f + 1 → post 0 (uv_X (uv_st (uv_st (uv_st (uv_st (uv_st F 36 (nI f)) 40 ((A 4) ((A 16) t).toNatClampNeg)) 41 (nI (r + 1))) 42 ((A 23) r)) 43 (nI (top + 2)))
      (uv_st (uv_st (uv_st A 24 (upd (A 24) top (nI (p + 1)))) 25 (upd (A 25) top ((F 41)))) 26 (upd (A 26) top ((F 42)))))) : wpX_step post (uv_X F A) := by
  have i1 : vp_in ((F 40)) 96 := by rw [hH.1]; exact vp_in_nI (by have := hH.2.2.1; have := hH.2.2.2.1; omega) (by omega)
  have i2 : ((F 40)).toNatClampNeg = p := by rw [hH.1]; exact nI_clamp (by have := hH.2.2.1; have := hH.2.2.2.1; omega)
  unfold wpX_step uv_X
  refine br_f (by rw [hH.1]; exact nI_pos (by have := hH.2.2.1; have := hH.2.2.2.1; omega)) <| br_t (by rw [hH.1, hH.2.1]; exact nI_lt hH.2.2.1 (by have := hH.2.2.2.1; omega)) <| nm_r (e' := nI (p + 1)) (by rw [hH.1]; exact nI_1 p) ⟨i1, nm_r (e' := nI r) (by rw [i2]; exact hH.2.2.2.2) ⟨i1, nm_r (e' := (A 2) p) (by rw [i2]) ⟨i1, nm_r (e' := 4) (by rw [i2]; exact hc) <| br_f (by decide) <| br_f (by decide) <| br_f uv_n_4_0 <| br_f uv_n_4_1 <| br_f uv_n_4_2 <| br_f uv_n_4_3 <| br_t rfl ?_⟩⟩⟩
  have j1 : vp_in (nI r) 176 := vp_in_nI (by omega) (by omega)
  have j2 : (nI r).toNatClampNeg = r := nI_clamp (by omega)
  have j3 : (F 43) - 1 = nI top := uv_p1 hfr
  have j4 : vp_in ((F 43) - 1) 12 := by rw [j3]; exact vp_in_nI htop (by omega)
  have j5 : ((F 43) - 1).toNatClampNeg = top := by rw [j3]; exact nI_clamp (by omega)
  have j6 : (F 43) + 1 = nI (top + 2) := by rw [hfr]; exact nI_1 _
  have j7 : nI r + 1 = nI (r + 1) := nI_1 r
  unfold wpX_enterCall
  refine ⟨j1, ?_⟩
  rw [j2]
  refine br_c (fun k1 => ?_) (fun k1 => h6 k1)
  obtain ⟨t1, t2⟩ := ht k1
  refine pk_lt (top + 1) md (fun hd => ?_) (fun hd => h7 k1 hd) hfr hmd (by omega) (by omega)
  refine xw_spend (F := (uv_st F 40 (nI (p + 1)))) (A := A) hf hfu (fun z => br_f (by decide) (h8 k1 hd z)) (fun f ef => br_t rfl ?_)
  have j8 : vp_in ((A 23) r) 32 := by rw [t1]; exact vp_in_nI t2 (by omega)
  have j9 : ((A 23) r).toNatClampNeg = t := by rw [t1]; exact nI_clamp (by omega)
  refine ⟨j4, nm_r (e' := upd (A 24) top (nI (p + 1))) (by rw [← j5]; rfl) ⟨j4, nm_r (e' := upd (A 25) top ((F 41))) (by rw [← j5]; rfl) ⟨j4, nm_r (e' := upd (A 26) top ((F 42))) (by rw [← j5]; rfl) <| nm_r (e' := nI (top + 2)) j6 ⟨j1, nm_r (e' := (A 23) r) rfl <| nm_r (e' := nI (r + 1)) j7 ⟨j8, ?_⟩⟩⟩⟩⟩
  have hp := hp1 k1
  rw [← j9] at hp
  refine ⟨hp, nm_r (e' := (A 4) ((A 16) t).toNatClampNeg) (by rw [← j9]) (h0 f k1 hd ef)⟩
end
end
section
/-! the component's steps with upvalues -/
section
variable {F : Nat → Int32} {A : Nat → Nat → Int32} {n p r q t m u : Nat} {x y : Int32}
/-- what a cell holds -/
def xs_c (A : Nat → Nat → Int32) (u : Nat) (x y : Int32) : Prop := ((A 18) u = -1 ∧ x = (A 19) u ∧ y = (A 20) u) ∨ (∃ q, q < 176 ∧ (A 18) u = nI q ∧ x = (A 22) q ∧ y = (A 23) q)
theorem xw_own_c {post : Int32 → Prop} {M : Int32} (hs : (F 42) = nI t) (ht : t < 32) (hM : M = nI m) (hm : m < 8) (h : post ((A 17) (t * 8 + m))) : wpX_ownCell post (uv_X F A) M := by
  subst hM
  have e : (F 42) * 8 + nI m = nI (t * 8 + m) := by rw [hs]; exact uv_8 t m
  have i1 : vp_in ((F 42) * 8 + nI m) 256 := by rw [e]; exact vp_in_nI (by omega) (by omega)
  have i2 : ((F 42) * 8 + nI m).toNatClampNeg = t * 8 + m := by rw [e]; exact nI_clamp (by omega)
  unfold wpX_ownCell uv_X
  refine br_t (by rw [hs]; exact nI_pos' (by omega)) ⟨i1, ?_⟩
  rw [i2]; exact h
theorem xs_2 {post : Int32 → SX → Prop} (hH : xs_H F A n p r) (hc : (A 0) p = 2) (hr : r < 176) (hs : (F 42) = nI t) (ht : t < 32) (hm : (A 2) p = nI m) (hm2 : m < 8) (hu : (A 17) (t * 8 + m) = nI u) (hu2 : u < 160) (hx : xs_c A u x y)
    (h : post 0 (uv_X (uv_st F 40 (nI (p + 1))) (uv_st (uv_st A 22 (upd (A 22) r x)) 23 (upd (A 23) r y)))) : wpX_step post (uv_X F A) := by
  have i1 : vp_in ((F 40)) 96 := by rw [hH.1]; exact vp_in_nI (by have := hH.2.2.1; have := hH.2.2.2.1; omega) (by omega)
  have i2 : ((F 40)).toNatClampNeg = p := by rw [hH.1]; exact nI_clamp (by have := hH.2.2.1; have := hH.2.2.2.1; omega)
  unfold wpX_step uv_X
  refine br_f (by rw [hH.1]; exact nI_pos (by have := hH.2.2.1; have := hH.2.2.2.1; omega)) <| br_t (by rw [hH.1, hH.2.1]; exact nI_lt hH.2.2.1 (by have := hH.2.2.2.1; omega)) <| nm_r (e' := nI (p + 1)) (by rw [hH.1]; exact nI_1 p) ⟨i1, nm_r (e' := nI r) (by rw [i2]; exact hH.2.2.2.2) ⟨i1, nm_r (e' := (A 2) p) (by rw [i2]) ⟨i1, nm_r (e' := 2) (by rw [i2]; exact hc) <| br_f (by decide) <| br_f (by decide) <| br_f uv_n_2_0 <| br_f uv_n_2_1 <| br_t rfl ?_⟩⟩⟩
  have j1 : vp_in (nI u) 160 := vp_in_nI hu2 (by omega)
  have j2 : (nI u).toNatClampNeg = u := nI_clamp (by omega)
  unfold wpX_loadUpvalue
  refine xw_own_c (F := (uv_st F 40 (nI (p + 1)))) (A := A) hs ht hm hm2 ?_
  rw [hu]
  refine br_t (nI_pos' (by omega)) ⟨j1, ?_⟩
  rw [j2]
  rcases hx with ⟨e1, e2, e3⟩ | ⟨q, q1, q2, q3, q4⟩
  · subst e2 e3
    refine nm_r (e' := -1) e1 <| br_t (by decide) ⟨j1, j1, ?_⟩
    exact xw_setReg (F := (uv_st F 40 (nI (p + 1)))) (A := A) rfl hr h
  · subst q3 q4
    have j3 : vp_in (nI q) 176 := vp_in_nI q1 (by omega)
    have j4 : (nI q).toNatClampNeg = q := nI_clamp (by omega)
    refine nm_r (e' := nI q) q2 <| br_f (nI_pos (by omega)) ⟨j3, j3, ?_⟩
    rw [j4]
    exact xw_setReg (F := (uv_st F 40 (nI (p + 1)))) (A := A) rfl hr h
theorem xs_8 {post : Int32 → SX → Prop} (hH : xs_H F A n p r) (hc : (A 0) p = 8) (hr : r < 176) (hs : (F 42) = nI t) (ht : t < 32) (hm : (A 2) p = nI m) (hm2 : m < 8) (hu : (A 17) (t * 8 + m) = nI u) (hu2 : u < 160)
    (h : ((A 18) u = -1 ∧ post 0 (uv_X (uv_st F 40 (nI (p + 1))) (uv_st (uv_st A 19 (upd (A 19) u ((A 22) r))) 20 (upd (A 20) u ((A 23) r))))) ∨
      (∃ q, q < 176 ∧ (A 18) u = nI q ∧ post 0 (uv_X (uv_st F 40 (nI (p + 1))) (uv_st (uv_st A 22 (upd (A 22) q ((A 22) r))) 23 (upd (A 23) q ((A 23) r)))))) : wpX_step post (uv_X F A) := by
  have i1 : vp_in ((F 40)) 96 := by rw [hH.1]; exact vp_in_nI (by have := hH.2.2.1; have := hH.2.2.2.1; omega) (by omega)
  have i2 : ((F 40)).toNatClampNeg = p := by rw [hH.1]; exact nI_clamp (by have := hH.2.2.1; have := hH.2.2.2.1; omega)
  unfold wpX_step uv_X
  refine br_f (by rw [hH.1]; exact nI_pos (by have := hH.2.2.1; have := hH.2.2.2.1; omega)) <| br_t (by rw [hH.1, hH.2.1]; exact nI_lt hH.2.2.1 (by have := hH.2.2.2.1; omega)) <| nm_r (e' := nI (p + 1)) (by rw [hH.1]; exact nI_1 p) ⟨i1, nm_r (e' := nI r) (by rw [i2]; exact hH.2.2.2.2) ⟨i1, nm_r (e' := (A 2) p) (by rw [i2]) ⟨i1, nm_r (e' := 8) (by rw [i2]; exact hc) <| br_f (by decide) <| br_f (by decide) <| br_f uv_n_8_0 <| br_f uv_n_8_1 <| br_f uv_n_8_2 <| br_f uv_n_8_3 <| br_f uv_n_8_4 <| br_f uv_n_8_5 <| br_f uv_n_8_6 <| br_f uv_n_8_7 <| br_t rfl ?_⟩⟩⟩
  have j1 : vp_in (nI u) 160 := vp_in_nI hu2 (by omega)
  have j2 : (nI u).toNatClampNeg = u := nI_clamp (by omega)
  have j3 : vp_in (nI r) 176 := vp_in_nI hr (by omega)
  have j4 : (nI r).toNatClampNeg = r := nI_clamp (by omega)
  unfold wpX_storeUpvalue
  refine xw_own_c (F := (uv_st F 40 (nI (p + 1)))) (A := A) hs ht hm hm2 ?_
  rw [hu]
  refine br_t (nI_pos' (by omega)) ⟨j1, ?_⟩
  rw [j2, j4]
  rcases h with ⟨e1, e2⟩ | ⟨q, q1, q2, q3⟩
  · exact nm_r (e' := -1) e1 <| br_t (by decide) ⟨j3, j1, nm_e ⟨j3, j1, nm_e e2⟩⟩
  · refine nm_r (e' := nI q) q2 <| br_f (nI_pos (by omega)) ⟨j3, j3, ?_⟩
    exact xw_setReg (F := (uv_st F 40 (nI (p + 1)))) (A := A) rfl q1 q3
end
section
variable {nk nv : Nat → Int32} {N rn g : Nat → Nat} {uc nd lim : Nat} {F : Nat → Int32} {A : Nat → Nat → Int32} {n p r : Nat} {x y : Int32}
theorem xw_closeL {L : Int32} (hL : L = nI lim) (hlim : lim < 2 ^ 31) (H : hp_H rn N g uc nd (F 39) (A 18) (A 19) (A 20) (A 21) (A 22) (A 23) nk nv) :
    ∃ (g' : Nat → Nat) (h' : Int32) (ur' uk' uv' : Nat → Int32), hp_H (fun r => if lim ≤ r then 0 else rn r) N g' uc nd h' ur' uk' uv' (A 21) (A 22) (A 23) nk nv ∧
      ∀ (post : SX → Prop), post (uv_X (uv_st F 39 (h')) (uv_st (uv_st (uv_st A 18 (ur')) 19 (uk')) 20 (uv'))) → wpX_closeFrom post (uv_X F A) L := by
  subst hL
  exact xw_close hlim H
/-- the end of a frame: the last one, or one with a caller -/
theorem xw_finish {b : Nat} (hb : (F 41) = nI b) (hb2 : b < 1000) (H : hp_H rn N g uc nd (F 39) (A 18) (A 19) (A 20) (A 21) (A 22) (A 23) nk nv) :
    ∃ (g' : Nat → Nat) (h' : Int32) (ur' uk' uv' : Nat → Int32), hp_H (fun r => if b ≤ r then 0 else rn r) N g' uc nd h' ur' uk' uv' (A 21) (A 22) (A 23) nk nv ∧
      ((F 43) = nI 1 → ∀ (post : SX → Prop), post (uv_X (uv_st (uv_st (uv_st (uv_st F 39 (h')) 44 (0)) 34 (x)) 35 (y)) (uv_st (uv_st (uv_st A 18 (ur')) 19 (uk')) 20 (uv'))) → wpX_finishFrame post (uv_X F A) x y) ∧
      (∀ c, (F 43) = nI (c + 2) → c + 1 < 12 → 1 ≤ b → b ≤ 176 → ∀ (post : SX → Prop), post (uv_X (uv_st (uv_st (uv_st (uv_st (uv_st F 39 (h')) 40 ((A 24) c)) 41 ((A 25) c)) 42 ((A 26) c)) 43 (nI (c + 1))) (uv_st (uv_st (uv_st (uv_st (uv_st A 18 (ur')) 19 (uk')) 20 (uv')) 22 (upd (A 22) (b - 1) x)) 23 (upd (A 23) (b - 1) y))) → wpX_finishFrame post (uv_X F A) x y) := by
  obtain ⟨g', h', ur', uk', uv', H', K⟩ := xw_closeL (F := F) (A := A) hb (by omega) H
  refine ⟨g', h', ur', uk', uv', H', fun hf post hp => ?_, fun c hf hc h1 h2 post hp => ?_⟩
  · unfold wpX_finishFrame uv_X
    refine K _ ?_
    refine br_f (by show ¬ 1 < (F 43); rw [hf]; decide) ?_
    exact hp
  · unfold wpX_finishFrame uv_X
    refine K _ ?_
    have e1 : (F 43) - 1 = nI (c + 1) := uv_p1 hf
    have i1 : vp_in (nI c) 12 := vp_in_nI (by omega) (by omega)
    have i2 : (nI c).toNatClampNeg = c := nI_clamp (by omega)
    have e3 : nI (c + 1) - 1 = nI c := nI_pred c
    have e2 : (F 41) - 1 = nI (b - 1) := by rw [hb]; exact uv_m1 h1
    have i1' : vp_in (nI (c + 1) - 1) 12 := by rw [e3]; exact i1
    refine br_t (by show 1 < (F 43); rw [hf]; exact nI_lt (a := 1) (by omega) (by omega)) ?_
    refine nm_r (e' := nI (b - 1)) e2 <| nm_r (e' := nI (c + 1)) e1 ⟨i1', nm_r (e' := (A 24) c) (by rw [e3, i2]; rfl) ⟨i1', nm_r (e' := (A 25) c) (by rw [e3, i2]; rfl) ⟨i1', nm_r (e' := (A 26) c) (by rw [e3, i2]; rfl) ?_⟩⟩⟩
    exact xw_setReg (F := (uv_st (uv_st (uv_st (uv_st (uv_st F 39 (h')) 40 ((A 24) c)) 41 ((A 25) c)) 42 ((A 26) c)) 43 (nI (c + 1)))) (A := (uv_st (uv_st (uv_st A 18 (ur')) 19 (uk')) 20 (uv'))) (r := b - 1) rfl (by omega) hp
/-- steps that close the registers from lim on -/
theorem xs_18 (hH : xs_H F A n p r) (hc : (A 0) p = 18) (hL : (F 41) + (A 2) p = nI lim) (hlim : lim < 1000) (H : hp_H rn N g uc nd (F 39) (A 18) (A 19) (A 20) (A 21) (A 22) (A 23) nk nv) :
    ∃ (g' : Nat → Nat) (h' : Int32) (ur' uk' uv' : Nat → Int32), hp_H (fun r => if lim ≤ r then 0 else rn r) N g' uc nd h' ur' uk' uv' (A 21) (A 22) (A 23) nk nv ∧
      ∀ (post : Int32 → SX → Prop), post 0 (uv_X (uv_st (uv_st F 39 (h')) 40 (nI (p + 1))) (uv_st (uv_st (uv_st A 18 (ur')) 19 (uk')) 20 (uv'))) → wpX_step post (uv_X F A) := by
  obtain ⟨g', h', ur', uk', uv', H', K⟩ := xw_closeL (F := (uv_st F 40 (nI (p + 1)))) (A := A) hL (by omega) H
  refine ⟨g', h', ur', uk', uv', H', fun post hp => ?_⟩
  have i1 : vp_in ((F 40)) 96 := by rw [hH.1]; exact vp_in_nI (by have := hH.2.2.1; have := hH.2.2.2.1; omega) (by omega)
  have i2 : ((F 40)).toNatClampNeg = p := by rw [hH.1]; exact nI_clamp (by have := hH.2.2.1; have := hH.2.2.2.1; omega)
  unfold wpX_step uv_X
  refine br_f (by rw [hH.1]; exact nI_pos (by have := hH.2.2.1; have := hH.2.2.2.1; omega)) <| br_t (by rw [hH.1, hH.2.1]; exact nI_lt hH.2.2.1 (by have := hH.2.2.2.1; omega)) <| nm_r (e' := nI (p + 1)) (by rw [hH.1]; exact nI_1 p) ⟨i1, nm_r (e' := nI r) (by rw [i2]; exact hH.2.2.2.2) ⟨i1, nm_r (e' := (A 2) p) (by rw [i2]) ⟨i1, nm_r (e' := 18) (by rw [i2]; exact hc) <| br_f (by decide) <| br_f (by decide) <| br_f uv_n_18_0 <| br_f uv_n_18_1 <| br_f uv_n_18_2 <| br_f uv_n_18_3 <| br_f uv_n_18_4 <| br_f uv_n_18_5 <| br_f uv_n_18_6 <| br_f uv_n_18_7 <| br_f uv_n_18_8 <| br_f uv_n_18_9 <| br_f uv_n_18_10 <| br_f uv_n_18_11 <| br_f uv_n_18_12 <| br_f uv_n_18_13 <| br_f uv_n_18_14 <| br_f uv_n_18_15 <| br_f uv_n_18_16 <| br_f uv_n_18_17 <| br_t rfl ?_⟩⟩⟩
  unfold wX_step_301 wpX_stepBlock
  refine ⟨i1, nm_r (e' := 18) (by rw [i2]; exact hc) <| br_f (by decide) <| br_f (by decide) <| br_f uv_n_18_12 <| br_f uv_n_18_13 <| br_f uv_n_18_14 <| br_f uv_n_18_15 <| br_f uv_n_18_16 <| br_f uv_n_18_17 <| br_t rfl ?_⟩
  exact K _ hp
theorem xs_17 (hH : xs_H F A n p r) (hc : (A 0) p = 17) (hL : (F 41) + (A 2) p = nI lim) (hlim : lim < 1000) (H : hp_H rn N g uc nd (F 39) (A 18) (A 19) (A 20) (A 21) (A 22) (A 23) nk nv) :
    ∃ (g' : Nat → Nat) (h' : Int32) (ur' uk' uv' : Nat → Int32), hp_H (fun r => if lim ≤ r then 0 else rn r) N g' uc nd h' ur' uk' uv' (A 21) (A 22) (A 23) nk nv ∧
      ∀ (post : Int32 → SX → Prop), post 0 (uv_X (uv_st (uv_st F 39 (h')) 40 ((A 3) p)) (uv_st (uv_st (uv_st A 18 (ur')) 19 (uk')) 20 (uv'))) → wpX_step post (uv_X F A) := by
  obtain ⟨g', h', ur', uk', uv', H', K⟩ := xw_closeL (F := (uv_st F 40 (nI (p + 1)))) (A := A) hL (by omega) H
  refine ⟨g', h', ur', uk', uv', H', fun post hp => ?_⟩
  have i1 : vp_in ((F 40)) 96 := by rw [hH.1]; exact vp_in_nI (by have := hH.2.2.1; have := hH.2.2.2.1; omega) (by omega)
  have i2 : ((F 40)).toNatClampNeg = p := by rw [hH.1]; exact nI_clamp (by have := hH.2.2.1; have := hH.2.2.2.1; omega)
  unfold wpX_step uv_X
  refine br_f (by rw [hH.1]; exact nI_pos (by have := hH.2.2.1; have := hH.2.2.2.1; omega)) <| br_t (by rw [hH.1, hH.2.1]; exact nI_lt hH.2.2.1 (by have := hH.2.2.2.1; omega)) <| nm_r (e' := nI (p + 1)) (by rw [hH.1]; exact nI_1 p) ⟨i1, nm_r (e' := nI r) (by rw [i2]; exact hH.2.2.2.2) ⟨i1, nm_r (e' := (A 2) p) (by rw [i2]) ⟨i1, nm_r (e' := 17) (by rw [i2]; exact hc) <| br_f (by decide) <| br_f (by decide) <| br_f uv_n_17_0 <| br_f uv_n_17_1 <| br_f uv_n_17_2 <| br_f uv_n_17_3 <| br_f uv_n_17_4 <| br_f uv_n_17_5 <| br_f uv_n_17_6 <| br_f uv_n_17_7 <| br_f uv_n_17_8 <| br_f uv_n_17_9 <| br_f uv_n_17_10 <| br_f uv_n_17_11 <| br_f uv_n_17_12 <| br_f uv_n_17_13 <| br_f uv_n_17_14 <| br_f uv_n_17_15 <| br_f uv_n_17_16 <| br_t rfl ?_⟩⟩⟩
  unfold wX_step_301 wpX_stepBlock
  refine ⟨i1, nm_r (e' := 17) (by rw [i2]; exact hc) <| br_f (by decide) <| br_f (by decide) <| br_f uv_n_17_12 <| br_f uv_n_17_13 <| br_f uv_n_17_14 <| br_f uv_n_17_15 <| br_f uv_n_17_16 <| br_t rfl ?_⟩
  exact K _ ⟨i1, nm_r (e' := (A 3) p) (by rw [i2]; rfl) hp⟩
theorem xs_19 {fu : Nat} (hH : xs_H F A n p r) (hc : (A 0) p = 19) (hf : (F 36) = nI fu) (hfu : fu < 1000) (hL : (F 41) + (A 2) p = nI lim) (hlim : lim < 1000) (H : hp_H rn N g uc nd (F 39) (A 18) (A 19) (A 20) (A 21) (A 22) (A 23) nk nv) :
    ∃ (g' : Nat → Nat) (h' : Int32) (ur' uk' uv' : Nat → Int32), hp_H (fun r => if lim ≤ r then 0 else rn r) N g' uc nd h' ur' uk' uv' (A 21) (A 22) (A 23) nk nv ∧
      ∀ (post : Int32 → SX → Prop), (fu = 0 → post 8 (uv_X (uv_st (uv_st F 39 (h')) 40 ((A 3) p)) (uv_st (uv_st (uv_st A 18 (ur')) 19 (uk')) 20 (uv')))) →
        (∀ f, fu = f + 1 → post 0 (uv_X (uv_st (uv_st (uv_st F 39 (h')) 40 ((A 3) p)) 36 (nI f)) (uv_st (uv_st (uv_st A 18 (ur')) 19 (uk')) 20 (uv')))) → wpX_step post (uv_X F A) := by
  obtain ⟨g', h', ur', uk', uv', H', K⟩ := xw_closeL (F := (uv_st F 40 (nI (p + 1)))) (A := A) hL (by omega) H
  refine ⟨g', h', ur', uk', uv', H', fun post hp0 hp1 => ?_⟩
  have i1 : vp_in ((F 40)) 96 := by rw [hH.1]; exact vp_in_nI (by have := hH.2.2.1; have := hH.2.2.2.1; omega) (by omega)
  have i2 : ((F 40)).toNatClampNeg = p := by rw [hH.1]; exact nI_clamp (by have := hH.2.2.1; have := hH.2.2.2.1; omega)
  unfold wpX_step uv_X
  refine br_f (by rw [hH.1]; exact nI_pos (by have := hH.2.2.1; have := hH.2.2.2.1; omega)) <| br_t (by rw [hH.1, hH.2.1]; exact nI_lt hH.2.2.1 (by have := hH.2.2.2.1; omega)) <| nm_r (e' := nI (p + 1)) (by rw [hH.1]; exact nI_1 p) ⟨i1, nm_r (e' := nI r) (by rw [i2]; exact hH.2.2.2.2) ⟨i1, nm_r (e' := (A 2) p) (by rw [i2]) ⟨i1, nm_r (e' := 19) (by rw [i2]; exact hc) <| br_f (by decide) <| br_f (by decide) <| br_f uv_n_19_0 <| br_f uv_n_19_1 <| br_f uv_n_19_2 <| br_f uv_n_19_3 <| br_f uv_n_19_4 <| br_f uv_n_19_5 <| br_f uv_n_19_6 <| br_f uv_n_19_7 <| br_f uv_n_19_8 <| br_f uv_n_19_9 <| br_f uv_n_19_10 <| br_f uv_n_19_11 <| br_f uv_n_19_12 <| br_f uv_n_19_13 <| br_f uv_n_19_14 <| br_f uv_n_19_15 <| br_f uv_n_19_16 <| br_f uv_n_19_17 <| br_f uv_n_19_18 <| br_t rfl ?_⟩⟩⟩
  unfold wX_step_301 wpX_stepBlock
  refine ⟨i1, nm_r (e' := 19) (by rw [i2]; exact hc) <| br_f (by decide) <| br_f (by decide) <| br_f uv_n_19_12 <| br_f uv_n_19_13 <| br_f uv_n_19_14 <| br_f uv_n_19_15 <| br_f uv_n_19_16 <| br_f uv_n_19_17 <| br_f uv_n_19_18 <| br_t rfl ?_⟩
  refine K _ ⟨i1, nm_r (e' := (A 3) p) (by rw [i2]; rfl) ?_⟩
  exact xw_spend (F := (uv_st (uv_st F 39 (h')) 40 ((A 3) p))) (A := (uv_st (uv_st (uv_st A 18 (ur')) 19 (uk')) 20 (uv'))) hf hfu hp0 hp1
theorem xs_12f {post : Int32 → SX → Prop} (hH : xs_H F A n p r) (hc : (A 0) p = 12) (hr : r < 176) (k0 : (A 22) r = 0) (v0 : (A 23) r = 0) (h : post 0 (uv_X (uv_st F 40 (nI (p + 1))) A)) : wpX_step post (uv_X F A) := by
  have i1 : vp_in ((F 40)) 96 := by rw [hH.1]; exact vp_in_nI (by have := hH.2.2.1; have := hH.2.2.2.1; omega) (by omega)
  have i2 : ((F 40)).toNatClampNeg = p := by rw [hH.1]; exact nI_clamp (by have := hH.2.2.1; have := hH.2.2.2.1; omega)
  unfold wpX_step uv_X
  refine br_f (by rw [hH.1]; exact nI_pos (by have := hH.2.2.1; have := hH.2.2.2.1; omega)) <| br_t (by rw [hH.1, hH.2.1]; exact nI_lt hH.2.2.1 (by have := hH.2.2.2.1; omega)) <| nm_r (e' := nI (p + 1)) (by rw [hH.1]; exact nI_1 p) ⟨i1, nm_r (e' := nI r) (by rw [i2]; exact hH.2.2.2.2) ⟨i1, nm_r (e' := (A 2) p) (by rw [i2]) ⟨i1, nm_r (e' := 12) (by rw [i2]; exact hc) <| br_f (by decide) <| br_f (by decide) <| br_f uv_n_12_0 <| br_f uv_n_12_1 <| br_f uv_n_12_2 <| br_f uv_n_12_3 <| br_f uv_n_12_4 <| br_f uv_n_12_5 <| br_f uv_n_12_6 <| br_f uv_n_12_7 <| br_f uv_n_12_8 <| br_f uv_n_12_9 <| br_f uv_n_12_10 <| br_f uv_n_12_11 <| br_t rfl ?_⟩⟩⟩
  unfold wX_step_301 wpX_stepBlock
  refine ⟨i1, nm_r (e' := 12) (by rw [i2]; exact hc) <| br_f (by decide) <| br_f (by decide) <| br_t rfl ?_⟩
  exact xw_true (F := (uv_st F 40 (nI (p + 1)))) (A := A) hr (fun _ _ => br_t rfl h) (fun z => absurd ⟨k0, v0⟩ z)
theorem xs_13f {post : Int32 → SX → Prop} (hH : xs_H F A n p r) (hc : (A 0) p = 13) (hr : r < 176) (k0 : (A 22) r = 0) (v0 : (A 23) r = 0) (h : post 0 (uv_X (uv_st F 40 (nI (p + 1))) A)) : wpX_step post (uv_X F A) := by
  have i1 : vp_in ((F 40)) 96 := by rw [hH.1]; exact vp_in_nI (by have := hH.2.2.1; have := hH.2.2.2.1; omega) (by omega)
  have i2 : ((F 40)).toNatClampNeg = p := by rw [hH.1]; exact nI_clamp (by have := hH.2.2.1; have := hH.2.2.2.1; omega)
  unfold wpX_step uv_X
  refine br_f (by rw [hH.1]; exact nI_pos (by have := hH.2.2.1; have := hH.2.2.2.1; omega)) <| br_t (by rw [hH.1, hH.2.1]; exact nI_lt hH.2.2.1 (by have := hH.2.2.2.1; omega)) <| nm_r (e' := nI (p + 1)) (by rw [hH.1]; exact nI_1 p) ⟨i1, nm_r (e' := nI r) (by rw [i2]; exact hH.2.2.2.2) ⟨i1, nm_r (e' := (A 2) p) (by rw [i2]) ⟨i1, nm_r (e' := 13) (by rw [i2]; exact hc) <| br_f (by decide) <| br_f (by decide) <| br_f uv_n_13_0 <| br_f uv_n_13_1 <| br_f uv_n_13_2 <| br_f uv_n_13_3 <| br_f uv_n_13_4 <| br_f uv_n_13_5 <| br_f uv_n_13_6 <| br_f uv_n_13_7 <| br_f uv_n_13_8 <| br_f uv_n_13_9 <| br_f uv_n_13_10 <| br_f uv_n_13_11 <| br_f uv_n_13_12 <| br_t rfl ?_⟩⟩⟩
  unfold wX_step_301 wpX_stepBlock
  refine ⟨i1, nm_r (e' := 13) (by rw [i2]; exact hc) <| br_f (by decide) <| br_f (by decide) <| br_f uv_n_13_12 <| br_t rfl ?_⟩
  exact xw_true (F := (uv_st F 40 (nI (p + 1)))) (A := A) hr (fun _ _ => br_t rfl h) (fun z => absurd ⟨k0, v0⟩ z)
theorem xs_12 {w : Nat} (hH : xs_H F A n p r) (hc : (A 0) p = 12) (hr : r < 176) (ht : ¬ ((A 22) r = 0 ∧ (A 23) r = 0)) (hw : (A 3) p = nI w) (hw2 : w < 96) (hL : (F 41) + (A 2) p = nI lim) (hlim : lim < 1000) (H : hp_H rn N g uc nd (F 39) (A 18) (A 19) (A 20) (A 21) (A 22) (A 23) nk nv) :
    ∃ (g' : Nat → Nat) (h' : Int32) (ur' uk' uv' : Nat → Int32), hp_H (fun r => if lim ≤ r then 0 else rn r) N g' uc nd h' ur' uk' uv' (A 21) (A 22) (A 23) nk nv ∧
      ∀ (post : Int32 → SX → Prop), post 0 (uv_X (uv_st (uv_st F 39 (h')) 40 ((A 3) w)) (uv_st (uv_st (uv_st A 18 (ur')) 19 (uk')) 20 (uv'))) → wpX_step post (uv_X F A) := by
  obtain ⟨g', h', ur', uk', uv', H', K⟩ := xw_closeL (F := (uv_st F 40 (nI (p + 1)))) (A := A) hL (by omega) H
  refine ⟨g', h', ur', uk', uv', H', fun post hp => ?_⟩
  have i1 : vp_in ((F 40)) 96 := by rw [hH.1]; exact vp_in_nI (by have := hH.2.2.1; have := hH.2.2.2.1; omega) (by omega)
  have i2 : ((F 40)).toNatClampNeg = p := by rw [hH.1]; exact nI_clamp (by have := hH.2.2.1; have := hH.2.2.2.1; omega)
  unfold wpX_step uv_X
  refine br_f (by rw [hH.1]; exact nI_pos (by have := hH.2.2.1; have := hH.2.2.2.1; omega)) <| br_t (by rw [hH.1, hH.2.1]; exact nI_lt hH.2.2.1 (by have := hH.2.2.2.1; omega)) <| nm_r (e' := nI (p + 1)) (by rw [hH.1]; exact nI_1 p) ⟨i1, nm_r (e' := nI r) (by rw [i2]; exact hH.2.2.2.2) ⟨i1, nm_r (e' := (A 2) p) (by rw [i2]) ⟨i1, nm_r (e' := 12) (by rw [i2]; exact hc) <| br_f (by decide) <| br_f (by decide) <| br_f uv_n_12_0 <| br_f uv_n_12_1 <| br_f uv_n_12_2 <| br_f uv_n_12_3 <| br_f uv_n_12_4 <| br_f uv_n_12_5 <| br_f uv_n_12_6 <| br_f uv_n_12_7 <| br_f uv_n_12_8 <| br_f uv_n_12_9 <| br_f uv_n_12_10 <| br_f uv_n_12_11 <| br_t rfl ?_⟩⟩⟩
  unfold wX_step_301 wpX_stepBlock
  refine ⟨i1, nm_r (e' := 12) (by rw [i2]; exact hc) <| br_f (by decide) <| br_f (by decide) <| br_t rfl ?_⟩
  refine xw_true (F := (uv_st F 40 (nI (p + 1)))) (A := A) hr (fun a b => absurd ⟨a, b⟩ ht) (fun _ => br_f (by decide) ?_)
  have j1 : vp_in ((A 3) p) 96 := by rw [hw]; exact vp_in_nI hw2 (by omega)
  have j2 : ((A 3) p).toNatClampNeg = w := by rw [hw]; exact nI_clamp (by omega)
  refine K _ ⟨i1, ?_⟩
  show vp_in ((A 3) ((F 40)).toNatClampNeg) 96 ∧ ∀ pc', pc' = (A 3) ((A 3) ((F 40)).toNatClampNeg).toNatClampNeg → post 0 (uv_X (uv_st (uv_st F 39 (h')) 40 (pc')) (uv_st (uv_st (uv_st A 18 (ur')) 19 (uk')) 20 (uv')))
  rw [i2, j2]
  exact ⟨j1, nm_e hp⟩
theorem xs_13 {w fu : Nat} (hH : xs_H F A n p r) (hc : (A 0) p = 13) (hr : r < 176) (ht : ¬ ((A 22) r = 0 ∧ (A 23) r = 0)) (hw : (A 3) p = nI w) (hf : (F 36) = nI fu) (hfu : fu < 1000) (hL : (F 41) + (A 2) p = nI lim) (hlim : lim < 1000) (H : hp_H rn N g uc nd (F 39) (A 18) (A 19) (A 20) (A 21) (A 22) (A 23) nk nv) :
    ∃ (g' : Nat → Nat) (h' : Int32) (ur' uk' uv' : Nat → Int32), hp_H (fun r => if lim ≤ r then 0 else rn r) N g' uc nd h' ur' uk' uv' (A 21) (A 22) (A 23) nk nv ∧
      ∀ (post : Int32 → SX → Prop), (fu = 0 → post 8 (uv_X (uv_st (uv_st F 39 (h')) 40 (nI (w + 1))) (uv_st (uv_st (uv_st A 18 (ur')) 19 (uk')) 20 (uv')))) →
        (∀ f, fu = f + 1 → post 0 (uv_X (uv_st (uv_st (uv_st F 39 (h')) 40 (nI (w + 1))) 36 (nI f)) (uv_st (uv_st (uv_st A 18 (ur')) 19 (uk')) 20 (uv')))) → wpX_step post (uv_X F A) := by
  obtain ⟨g', h', ur', uk', uv', H', K⟩ := xw_closeL (F := (uv_st F 40 (nI (p + 1)))) (A := A) hL (by omega) H
  refine ⟨g', h', ur', uk', uv', H', fun post hp0 hp1 => ?_⟩
  have i1 : vp_in ((F 40)) 96 := by rw [hH.1]; exact vp_in_nI (by have := hH.2.2.1; have := hH.2.2.2.1; omega) (by omega)
  have i2 : ((F 40)).toNatClampNeg = p := by rw [hH.1]; exact nI_clamp (by have := hH.2.2.1; have := hH.2.2.2.1; omega)
  unfold wpX_step uv_X
  refine br_f (by rw [hH.1]; exact nI_pos (by have := hH.2.2.1; have := hH.2.2.2.1; omega)) <| br_t (by rw [hH.1, hH.2.1]; exact nI_lt hH.2.2.1 (by have := hH.2.2.2.1; omega)) <| nm_r (e' := nI (p + 1)) (by rw [hH.1]; exact nI_1 p) ⟨i1, nm_r (e' := nI r) (by rw [i2]; exact hH.2.2.2.2) ⟨i1, nm_r (e' := (A 2) p) (by rw [i2]) ⟨i1, nm_r (e' := 13) (by rw [i2]; exact hc) <| br_f (by decide) <| br_f (by decide) <| br_f uv_n_13_0 <| br_f uv_n_13_1 <| br_f uv_n_13_2 <| br_f uv_n_13_3 <| br_f uv_n_13_4 <| br_f uv_n_13_5 <| br_f uv_n_13_6 <| br_f uv_n_13_7 <| br_f uv_n_13_8 <| br_f uv_n_13_9 <| br_f uv_n_13_10 <| br_f uv_n_13_11 <| br_f uv_n_13_12 <| br_t rfl ?_⟩⟩⟩
  unfold wX_step_301 wpX_stepBlock
  refine ⟨i1, nm_r (e' := 13) (by rw [i2]; exact hc) <| br_f (by decide) <| br_f (by decide) <| br_f uv_n_13_12 <| br_t rfl ?_⟩
  refine xw_true (F := (uv_st F 40 (nI (p + 1)))) (A := A) hr (fun a b => absurd ⟨a, b⟩ ht) (fun _ => br_f (by decide) ?_)
  refine K _ ⟨i1, nm_r (e' := nI (w + 1)) (by rw [i2]; show (A 3) p + 1 = _; rw [hw]; exact nI_1 w) ?_⟩
  exact xw_spend (F := (uv_st (uv_st F 39 (h')) 40 (nI (w + 1)))) (A := (uv_st (uv_st (uv_st A 18 (ur')) 19 (uk')) 20 (uv'))) hf hfu hp0 hp1
/-- return, the function's end, the program's end: all end the frame -/
theorem xs_11 {post : Int32 → SX → Prop} (hH : xs_H F A n p r) (hc : (A 0) p = 11) (hr : r < 176) (h : ∀ p2 : SX → Prop, (∀ u, post 0 u → p2 u) → wpX_finishFrame p2 (uv_X (uv_st F 40 (nI (p + 1))) A) ((A 22) r) ((A 23) r)) : wpX_step post (uv_X F A) := by
  have i1 : vp_in ((F 40)) 96 := by rw [hH.1]; exact vp_in_nI (by have := hH.2.2.1; have := hH.2.2.2.1; omega) (by omega)
  have i2 : ((F 40)).toNatClampNeg = p := by rw [hH.1]; exact nI_clamp (by have := hH.2.2.1; have := hH.2.2.2.1; omega)
  unfold wpX_step uv_X
  refine br_f (by rw [hH.1]; exact nI_pos (by have := hH.2.2.1; have := hH.2.2.2.1; omega)) <| br_t (by rw [hH.1, hH.2.1]; exact nI_lt hH.2.2.1 (by have := hH.2.2.2.1; omega)) <| nm_r (e' := nI (p + 1)) (by rw [hH.1]; exact nI_1 p) ⟨i1, nm_r (e' := nI r) (by rw [i2]; exact hH.2.2.2.2) ⟨i1, nm_r (e' := (A 2) p) (by rw [i2]) ⟨i1, nm_r (e' := 11) (by rw [i2]; exact hc) <| br_f (by decide) <| br_f (by decide) <| br_f uv_n_11_0 <| br_f uv_n_11_1 <| br_f uv_n_11_2 <| br_f uv_n_11_3 <| br_f uv_n_11_4 <| br_f uv_n_11_5 <| br_f uv_n_11_6 <| br_f uv_n_11_7 <| br_f uv_n_11_8 <| br_f uv_n_11_9 <| br_f uv_n_11_10 <| br_t rfl ?_⟩⟩⟩
  have j1 : vp_in (nI r) 176 := vp_in_nI hr (by omega)
  have j2 : (nI r).toNatClampNeg = r := nI_clamp (by omega)
  refine ⟨j1, j1, ?_⟩
  rw [j2]
  exact h _ (fun u hu => hu)
theorem xs_20 {post : Int32 → SX → Prop} (hH : xs_H F A n p r) (hc : (A 0) p = 20) (h : ∀ p2 : SX → Prop, (∀ u, post 0 u → p2 u) → wpX_finishFrame p2 (uv_X (uv_st F 40 (nI (p + 1))) A) 0 0) : wpX_step post (uv_X F A) := by
  have i1 : vp_in ((F 40)) 96 := by rw [hH.1]; exact vp_in_nI (by have := hH.2.2.1; have := hH.2.2.2.1; omega) (by omega)
  have i2 : ((F 40)).toNatClampNeg = p := by rw [hH.1]; exact nI_clamp (by have := hH.2.2.1; have := hH.2.2.2.1; omega)
  unfold wpX_step uv_X
  refine br_f (by rw [hH.1]; exact nI_pos (by have := hH.2.2.1; have := hH.2.2.2.1; omega)) <| br_t (by rw [hH.1, hH.2.1]; exact nI_lt hH.2.2.1 (by have := hH.2.2.2.1; omega)) <| nm_r (e' := nI (p + 1)) (by rw [hH.1]; exact nI_1 p) ⟨i1, nm_r (e' := nI r) (by rw [i2]; exact hH.2.2.2.2) ⟨i1, nm_r (e' := (A 2) p) (by rw [i2]) ⟨i1, nm_r (e' := 20) (by rw [i2]; exact hc) <| br_f (by decide) <| br_f (by decide) <| br_f uv_n_20_0 <| br_f uv_n_20_1 <| br_f uv_n_20_2 <| br_f uv_n_20_3 <| br_f uv_n_20_4 <| br_f uv_n_20_5 <| br_f uv_n_20_6 <| br_f uv_n_20_7 <| br_f uv_n_20_8 <| br_f uv_n_20_9 <| br_f uv_n_20_10 <| br_f uv_n_20_11 <| br_f uv_n_20_12 <| br_f uv_n_20_13 <| br_f uv_n_20_14 <| br_f uv_n_20_15 <| br_f uv_n_20_16 <| br_f uv_n_20_17 <| br_f uv_n_20_18 <| br_f uv_n_20_19 <| br_t rfl ?_⟩⟩⟩
  exact h _ (fun u hu => hu)
theorem xs_end {post : Int32 → SX → Prop} (h1 : (F 40) = nI n) (h2 : (F 28) = nI n) (hn : n ≤ 96) (h : ∀ p2 : SX → Prop, (∀ u, post 0 u → p2 u) → wpX_finishFrame p2 (uv_X F A) 0 0) : wpX_step post (uv_X F A) := by
  unfold wpX_step uv_X
  refine br_f (by rw [h1]; exact nI_pos (by omega)) <| br_f (by rw [h1, h2]; exact nI_nlt (Nat.le_refl _) (by omega)) ?_
  unfold wX_step_18
  exact h _ (fun u hu => hu)
end
end
section
/-! the component opens a cell; a closure is made -/
section
variable {nk nv : Nat → Int32} {N rn g : Nat → Nat} {uc nd r : Nat} {F : Nat → Int32} {A : Nat → Nat → Int32}
def xu_I (uc r : Nat) (g : Nat → Nat) (h : Int32) (ux : Nat → Int32) (R : Nat) (x2 x3 : Int32) : Prop :=
  (x2 = -1 ∧ x3 = h ∧ R = 1000) ∨ (∃ bf, bf < uc ∧ x2 = nI bf ∧ r + 1 < g bf ∧ x3 = ux bf ∧ R = g bf)
theorem xu_mx {h : Int32} {ur uk uv ux rk rv : Nat → Int32} {R : Nat} {x2 x3 : Int32} (H : hp_H rn N g uc nd h ur uk uv ux rk rv nk nv) (I : xu_I uc r g h ux R x2 x3) : hp_mx uc g x3 R := by
  rcases I with ⟨_, e, eR⟩ | ⟨bf, b1, _, b3, e, eR⟩
  · rw [e, eR]; exact H.2.2.2.2.2.2.2.1
  · rw [e, eR]; exact H.2.2.2.2.2.2.2.2 bf b1 (by omega)
theorem xu_lp (hr : r < 160) (H : hp_H rn N g uc nd (F 39) (A 18) (A 19) (A 20) (A 21) (A 22) (A 23) nk nv) : ∀ (d i R : Nat) (x2 x3 : Int32), xu_I uc r g (F 39) (A 21) R x2 x3 → (∀ u, u < uc → x3 = nI u → g u ≤ d) → i + d ≤ 160 →
    ∃ (R' : Nat) (x2' x3' : Int32), xu_I uc r g (F 39) (A 21) R' x2' x3' ∧ (x3' = -1 ∨ ∃ u, u < uc ∧ x3' = nI u ∧ g u ≠ 0 ∧ g u ≤ r + 1) ∧
      ∀ (post : Int32 → SX → Prop) (fuel : Nat), d < fuel → wX_openUpvalue_47 post (nI r) x2' x3' (F 0) (F 1) (F 2) (F 3) (F 4) (F 5) (F 6) (F 7) (F 8) (F 9) (F 10) (F 11) (F 12) (F 13) (F 14) (F 15) (F 16) (F 17) (F 18) (F 19) (F 20) (F 21) (F 22) (F 23) (F 24) (F 25) (F 26) (F 27) (F 28) (F 29) (F 30) (F 31) (F 32) (F 33) (F 34) (F 35) (F 36) (F 37) (F 38) (F 39) (F 40) (F 41) (F 42) (F 43) (F 44) (A 0) (A 1) (A 2) (A 3) (A 4) (A 5) (A 6) (A 7) (A 8) (A 9) (A 10) (A 11) (A 12) (A 13) (A 14) (A 15) (A 16) (A 17) (A 18) (A 19) (A 20) (A 21) (A 22) (A 23) (A 24) (A 25) (A 26) → wX_openUpvalue_10 post (nI r) (F 0) (F 1) (F 2) (F 3) (F 4) (F 5) (F 6) (F 7) (F 8) (F 9) (F 10) (F 11) (F 12) (F 13) (F 14) (F 15) (F 16) (F 17) (F 18) (F 19) (F 20) (F 21) (F 22) (F 23) (F 24) (F 25) (F 26) (F 27) (F 28) (F 29) (F 30) (F 31) (F 32) (F 33) (F 34) (F 35) (F 36) (F 37) (F 38) (F 39) (F 40) (F 41) (F 42) (F 43) (F 44) (A 0) (A 1) (A 2) (A 3) (A 4) (A 5) (A 6) (A 7) (A 8) (A 9) (A 10) (A 11) (A 12) (A 13) (A 14) (A 15) (A 16) (A 17) (A 18) (A 19) (A 20) (A 21) (A 22) (A 23) (A 24) (A 25) (A 26) fuel x2 x3 (nI i) := by
  have huc := (hp_uc H).2
  intro d
  induction d with
  | zero =>
    intro i R x2 x3 I hd hi
    have mx := xu_mx H I
    have e : x3 = -1 := by
      rcases mx with z | ⟨u, u1, u2, u3, _⟩
      · exact z.1
      · have := hd u u1 u2; omega
    refine ⟨R, x2, x3, I, Or.inl e, fun post fuel hf hp => ?_⟩
    obtain ⟨m, rfl⟩ : ∃ m, fuel = m + 1 := ⟨fuel - 1, by omega⟩
    rw [wX_openUpvalue_10]
    exact br_c (fun _ => hp) (fun _ => br_t (by rw [e]; decide) hp)
  | succ d ih =>
    intro i R x2 x3 I hd hi
    have mx := xu_mx H I
    rcases mx with ⟨e, _⟩ | ⟨u, u1, u2, u3, u4, u5⟩
    · refine ⟨R, x2, x3, I, Or.inl e, fun post fuel hf hp => ?_⟩
      obtain ⟨m, rfl⟩ : ∃ m, fuel = m + 1 := ⟨fuel - 1, by omega⟩
      rw [wX_openUpvalue_10]
      exact br_c (fun _ => hp) (fun _ => br_t (by rw [e]; decide) hp)
    · have gu := hp_g H u1
      have e1 : (A 18) u = nI (g u - 1) := uv_gm (H.2.1 u u1).2 u3
      have i1 : ¬ nI u < 0 := nI_pos (by omega)
      have i2 : vp_in (nI u) 160 := vp_in_nI (by omega) (by omega)
      have i3 : (nI u).toNatClampNeg = u := nI_clamp (by omega)
      by_cases hl : g u ≤ r + 1
      · refine ⟨R, x2, x3, I, Or.inr ⟨u, u1, u2, u3, hl⟩, fun post fuel hf hp => ?_⟩
        obtain ⟨m, rfl⟩ : ∃ m, fuel = m + 1 := ⟨fuel - 1, by omega⟩
        rw [wX_openUpvalue_10]
        subst u2
        refine br_c (fun _ => hp) (fun _ => br_f i1 ⟨i2, br_t ?_ hp⟩)
        rw [i3, e1]
        exact nI_le (by omega) (by omega)
      · have gd := hd u u1 u2
        obtain ⟨R', x2', x3', I', E', K⟩ := ih (i + 1) (g u) (nI u) ((A 21) u) (Or.inr ⟨u, u1, rfl, by omega, rfl, rfl⟩) (fun v hv ev => by
          rcases H.2.2.2.2.2.2.2.2 u u1 u3 with ⟨z, _⟩ | ⟨w, w1, w2, w3, w4, _⟩
          · rw [z] at ev
            exact absurd ev.symm (fun y => nI_pos (n := v) (by omega) (by rw [y]; decide))
          · have : w = v := (nI_eq (by omega) (by omega)).mp (w2.symm.trans ev)
            subst this; omega) (by omega)
        refine ⟨R', x2', x3', I', E', fun post fuel hf hp => ?_⟩
        obtain ⟨m, rfl⟩ : ∃ m, fuel = m + 1 := ⟨fuel - 1, by omega⟩
        have i7 : ¬ (160 : Int32) ≤ nI i := nI_ge (b := 160) (by omega) (by omega)
        rw [wX_openUpvalue_10]
        subst u2
        refine br_f i7 (br_f i1 ⟨i2, br_f ?_ ⟨i2, nm_r (e' := (A 21) u) (by rw [i3]) <| nm_r (nI_1 i) (K post m (by omega) hp)⟩⟩)
        rw [i3, e1]
        exact nI_ge (by omega) (by omega)
theorem xw_openUp {v : Nat} {L : Int32} (hL : L = nI r) (huc : (F 38) = nI uc) (hv : rn r = v + 1) (H : hp_H rn N g uc nd (F 39) (A 18) (A 19) (A 20) (A 21) (A 22) (A 23) nk nv) :
    ∃ (u uc' : Nat) (N' g' : Nat → Nat) (c' h' : Int32) (ur' ux' : Nat → Int32), uc ≤ uc' ∧ (∀ w, w < uc → N' w = N w) ∧ u < uc' ∧ N' u = v ∧ c' = nI uc' ∧ hp_H rn N' g' uc' nd h' ur' (A 19) (A 20) ux' (A 22) (A 23) nk nv ∧
      ∀ post : Int32 → SX → Prop, post (nI u) (uv_X (uv_st (uv_st F 38 (c')) 39 (h')) (uv_st (uv_st A 18 (ur')) 21 (ux'))) → wpX_openUpvalue post (uv_X F A) L := by
  subst hL
  have hr := (H.2.2.2.1 r (by omega)).1
  have huc1 := (hp_uc H)
  obtain ⟨R, x2, x3, I, E, K⟩ := xu_lp (F := F) (A := A) hr H 160 0 1000 (-1) (F 39) (Or.inl ⟨rfl, rfl, rfl⟩) (fun u hu _ => hp_g H hu) (by omega)
  have mx := xu_mx H I
  have go : ∀ post : Int32 → SX → Prop, wX_openUpvalue_47 post (nI r) x2 x3 (F 0) (F 1) (F 2) (F 3) (F 4) (F 5) (F 6) (F 7) (F 8) (F 9) (F 10) (F 11) (F 12) (F 13) (F 14) (F 15) (F 16) (F 17) (F 18) (F 19) (F 20) (F 21) (F 22) (F 23) (F 24) (F 25) (F 26) (F 27) (F 28) (F 29) (F 30) (F 31) (F 32) (F 33) (F 34) (F 35) (F 36) (F 37) (F 38) (F 39) (F 40) (F 41) (F 42) (F 43) (F 44) (A 0) (A 1) (A 2) (A 3) (A 4) (A 5) (A 6) (A 7) (A 8) (A 9) (A 10) (A 11) (A 12) (A 13) (A 14) (A 15) (A 16) (A 17) (A 18) (A 19) (A 20) (A 21) (A 22) (A 23) (A 24) (A 25) (A 26) → wpX_openUpvalue post (uv_X F A) (nI r) := fun post hp => by
    unfold wpX_openUpvalue uv_X
    exact ⟨161, K post 161 (by omega) hp⟩
  by_cases ex : ∃ u, u < uc ∧ x3 = nI u ∧ g u = r + 1
  · obtain ⟨u, u1, u2, u3⟩ := ex
    have e1 : (A 18) u = nI (g u - 1) := uv_gm (H.2.1 u u1).2 (by omega)
    refine ⟨u, uc, N, g, (F 38), (F 39), _, _, Nat.le_refl _, fun _ _ => rfl, u1, ?_, huc, H, fun post hp => go post ?_⟩
    · have := H.2.2.2.2.2.1 u u1 (by omega)
      rw [u3, Nat.add_sub_cancel] at this
      omega
    · subst u2
      unfold wX_openUpvalue_47
      have i2 : vp_in (nI u) 160 := vp_in_nI (by omega) (by omega)
      have i3 : (nI u).toNatClampNeg = u := nI_clamp (by omega)
      refine br_f (nI_pos (by omega)) ⟨i2, br_t ?_ hp⟩
      rw [i3, e1, u3, Nat.add_sub_cancel]
  · -- a new cell
    have lt : ∀ w, w < uc → g w < R → g w < r + 1 := by
      intro w hw hwR
      rcases mx with ⟨_, z⟩ | ⟨u, u1, u2, u3, u4, u5⟩
      · by_cases e : g w = 0
        · omega
        · have := z w hw e; omega
      · rcases E with z | ⟨u', e1, e2, e3, e4⟩
        · rw [z] at u2
          exact absurd u2.symm (fun y => nI_pos (n := u) (by omega) (by rw [y]; decide))
        · have : u = u' := (nI_eq (by omega) (by omega)).mp (u2.symm.trans e2)
          subst this
          have ne : g u ≠ r + 1 := fun y => ex ⟨u, u1, u2, y⟩
          have := u5 w hw hwR
          omega
    have to63 : ∀ post : Int32 → SX → Prop, wX_openUpvalue_63 post (nI r) x2 x3 (F 0) (F 1) (F 2) (F 3) (F 4) (F 5) (F 6) (F 7) (F 8) (F 9) (F 10) (F 11) (F 12) (F 13) (F 14) (F 15) (F 16) (F 17) (F 18) (F 19) (F 20) (F 21) (F 22) (F 23) (F 24) (F 25) (F 26) (F 27) (F 28) (F 29) (F 30) (F 31) (F 32) (F 33) (F 34) (F 35) (F 36) (F 37) (F 38) (F 39) (F 40) (F 41) (F 42) (F 43) (F 44) (A 0) (A 1) (A 2) (A 3) (A 4) (A 5) (A 6) (A 7) (A 8) (A 9) (A 10) (A 11) (A 12) (A 13) (A 14) (A 15) (A 16) (A 17) (A 18) (A 19) (A 20) (A 21) (A 22) (A 23) (A 24) (A 25) (A 26) → wX_openUpvalue_47 post (nI r) x2 x3 (F 0) (F 1) (F 2) (F 3) (F 4) (F 5) (F 6) (F 7) (F 8) (F 9) (F 10) (F 11) (F 12) (F 13) (F 14) (F 15) (F 16) (F 17) (F 18) (F 19) (F 20) (F 21) (F 22) (F 23) (F 24) (F 25) (F 26) (F 27) (F 28) (F 29) (F 30) (F 31) (F 32) (F 33) (F 34) (F 35) (F 36) (F 37) (F 38) (F 39) (F 40) (F 41) (F 42) (F 43) (F 44) (A 0) (A 1) (A 2) (A 3) (A 4) (A 5) (A 6) (A 7) (A 8) (A 9) (A 10) (A 11) (A 12) (A 13) (A 14) (A 15) (A 16) (A 17) (A 18) (A 19) (A 20) (A 21) (A 22) (A 23) (A 24) (A 25) (A 26) := by
      intro post hp
      unfold wX_openUpvalue_47
      rcases mx with ⟨z, _⟩ | ⟨u, u1, u2, u3, u4, u5⟩
      · exact br_t (by rw [z]; decide) hp
      · subst u2
        have i2 : vp_in (nI u) 160 := vp_in_nI (by omega) (by omega)
        have i3 : (nI u).toNatClampNeg = u := nI_clamp (by omega)
        have e1 : (A 18) u = nI (g u - 1) := uv_gm (H.2.1 u u1).2 u3
        have gu := hp_g H u1
        refine br_f (nI_pos (by omega)) ⟨i2, br_f ?_ hp⟩
        rw [i3, e1, nI_eq (by omega) (by omega)]
        intro y
        exact ex ⟨u, u1, rfl, by omega⟩
    have no : ∀ w, w < uc → g w ≠ r + 1 := by
      intro w hw e
      rcases I with ⟨i1, i2, i3⟩ | ⟨bf, b1, b2, b3, b4, b5⟩
      · have := lt w hw (by omega); omega
      · have := lt w hw (by omega); omega
    have room := hp_room H hv no
    have nd160 := H.1
    have j1 : (F 38) < 160 := by rw [huc]; exact nI_lt (b := 160) (by omega) (by omega)
    have j2 : vp_in ((F 38)) 160 := by rw [huc]; exact vp_in_nI (by omega) (by omega)
    have j3 : ((F 38)).toNatClampNeg = uc := by rw [huc]; exact nI_clamp (by omega)
    have j4 : (F 38) + 1 = nI (uc + 1) := by rw [huc]; exact nI_1 uc
    rcases I with ⟨i1, i2, i3⟩ | ⟨bf, b1, b2, b3, b4, b5⟩
    · have H2 := hp_cell_hd H hv (fun w hw => lt w hw (by have := hp_g H hw; omega))
      rw [← huc] at H2
      refine ⟨uc, uc + 1, _, _, nI (uc + 1), (F 38), _, _, by omega, fun w hw => uv_sn (by omega), by omega, uv_se, rfl, H2, fun post hp => go post (to63 post ?_)⟩
      subst i1 i2
      unfold wX_openUpvalue_63
      rw [← huc] at hp
      exact br_t j1 <| nm_r j4 ⟨j2, nm_r (e' := upd (A 18) uc (nI r)) (by rw [j3]) ⟨j2, nm_r (e' := upd (A 21) uc ((F 39))) (by rw [j3]) <| br_f (by decide) hp⟩⟩
    · have H2 := hp_cell_in H hv b1 b3 b4.symm (fun w hw hwb => lt w hw (by omega))
      rw [← huc] at H2
      refine ⟨uc, uc + 1, _, _, nI (uc + 1), (F 39), _, _, by omega, fun w hw => uv_sn (by omega), by omega, uv_se, rfl, H2, fun post hp => go post (to63 post ?_)⟩
      subst b2
      unfold wX_openUpvalue_63
      rw [← huc] at hp
      have k1 : vp_in (nI bf) 160 := vp_in_nI (by omega) (by omega)
      have k2 : (nI bf).toNatClampNeg = bf := nI_clamp (by omega)
      exact br_t j1 <| nm_r j4 ⟨j2, nm_r (e' := upd (A 18) uc (nI r)) (by rw [j3]) ⟨j2, nm_r (e' := upd (A 21) uc x3) (by rw [j3]) <| br_t (nI_pos' (by omega)) ⟨k1, nm_r (e' := upd (upd (A 21) uc x3) bf ((F 38))) (by rw [k2]) hp⟩⟩⟩
end
end
section
/-! makeClosure -/
section
variable {nk nv : Nat → Int32} {rn : Nat → Nat} {nd cc pr b uc0 : Nat} {N0 : Nat → Nat} {cap : Nat → Prop} {Ev : Nat → Int32} {cu0 ps : Nat → Int32}
/-- where the names of a new closure come from -/
def xu_Q (rn : Nat → Nat) (b cc uc0 : Nat) (N0 : Nat → Nat) (cap : Nat → Prop) (Ev cu0 : Nat → Int32) (src slf : Int32) (m : Nat) : Prop :=
  (src = -2 ∧ ¬ cap m) ∨ (∃ l v, src = nI l ∧ l < 100 ∧ rn (b + l) = v + 1 ∧ cap m ∧ Ev m = nI v) ∨ (src = -1 ∧ cap m ∧ ∃ t u, slf = nI t ∧ t < cc ∧ u < uc0 ∧ cu0 (t * 8 + m) = nI u ∧ Ev m = nI (N0 u))
theorem xu_mk_lp {x1 x3 : Int32} (hcc : cc < 32) (hb : b < 1000) (hpr : pr < 16) : ∀ (e i : Nat) (F : Nat → Int32) (A : Nat → Nat → Int32) (N g : Nat → Nat) (uc : Nat), i + e = 8 → (F 41) = nI b → (A 5) = ps →
    (∀ m, m < 8 → xu_Q rn b cc uc0 N0 cap Ev cu0 (ps (pr * 8 + m)) (F 42) m) → uc0 ≤ uc → (∀ w, w < uc0 → N w = N0 w) → (F 38) = nI uc →
    hp_H rn N g uc nd (F 39) (A 18) (A 19) (A 20) (A 21) (A 22) (A 23) nk nv → (∀ j, j < cc * 8 → (A 17) j = cu0 j) →
    (∀ m, m < i → (cap m → ∃ u, u < uc ∧ (A 17) (cc * 8 + m) = nI u ∧ Ev m = nI (N u)) ∧ (¬ cap m → (A 17) (cc * 8 + m) = -1)) →
    ∃ (N' g' : Nat → Nat) (uc' : Nat) (c' h' : Int32) (ur' ux' cu' : Nat → Int32), uc0 ≤ uc' ∧ (∀ w, w < uc0 → N' w = N0 w) ∧ c' = nI uc' ∧ hp_H rn N' g' uc' nd h' ur' (A 19) (A 20) ux' (A 22) (A 23) nk nv ∧ (∀ j, j < cc * 8 → cu' j = cu0 j) ∧
      (∀ m, m < 8 → (cap m → ∃ u, u < uc' ∧ cu' (cc * 8 + m) = nI u ∧ Ev m = nI (N' u)) ∧ (¬ cap m → cu' (cc * 8 + m) = -1)) ∧
      ∀ (post : Int32 → SX → Prop) (fuel : Nat), e < fuel → wpX_setRegister (fun u => match u with | (f0, f1, f2, f3, f4, f5, f6, f7, f8, f9, f10, f11, f12, f13, f14, f15, f16, f17, f18, f19, f20, f21, f22, f23, f24, f25, f26, f27, f28, f29, f30, f31, f32, f33, f34, f35, f36, f37, f38, f39, f40, f41, f42, f43, f44, a0, a1, a2, a3, a4, a5, a6, a7, a8, a9, a10, a11, a12, a13, a14, a15, a16, a17, a18, a19, a20, a21, a22, a23, a24, a25, a26) => post 0 (f0, f1, f2, f3, f4, f5, f6, f7, f8, f9, f10, f11, f12, f13, f14, f15, f16, f17, f18, f19, f20, f21, f22, f23, f24, f25, f26, f27, f28, f29, f30, f31, f32, f33, f34, f35, f36, f37, f38, f39, x3, f41, f42, f43, f44, a0, a1, a2, a3, a4, a5, a6, a7, a8, a9, a10, a11, a12, a13, a14, a15, a16, a17, a18, a19, a20, a21, a22, a23, a24, a25, a26)) (uv_X (uv_st (uv_st F 38 (c')) 39 (h')) (uv_st (uv_st (uv_st A 18 (ur')) 21 (ux')) 17 (cu'))) x1 1 (nI cc) →
        wX_makeClosure_41 post x1 (nI pr) x3 (nI cc) fuel (nI i) (F 0) (F 1) (F 2) (F 3) (F 4) (F 5) (F 6) (F 7) (F 8) (F 9) (F 10) (F 11) (F 12) (F 13) (F 14) (F 15) (F 16) (F 17) (F 18) (F 19) (F 20) (F 21) (F 22) (F 23) (F 24) (F 25) (F 26) (F 27) (F 28) (F 29) (F 30) (F 31) (F 32) (F 33) (F 34) (F 35) (F 36) (F 37) (F 38) (F 39) (F 40) (F 41) (F 42) (F 43) (F 44) (A 0) (A 1) (A 2) (A 3) (A 4) (A 5) (A 6) (A 7) (A 8) (A 9) (A 10) (A 11) (A 12) (A 13) (A 14) (A 15) (A 16) (A 17) (A 18) (A 19) (A 20) (A 21) (A 22) (A 23) (A 24) (A 25) (A 26) := by
  intro e
  induction e with
  | zero =>
    intro i F A N g uc hi hbs hps hQ hu0 hN huc H hcu hdone
    have ei : i = 8 := by omega
    subst ei
    refine ⟨N, g, uc, (F 38), (F 39), _, _, (A 17), hu0, hN, huc, H, hcu, hdone, fun post fuel hf hp => ?_⟩
    obtain ⟨m, rfl⟩ : ∃ m, fuel = m + 1 := ⟨fuel - 1, by omega⟩
    rw [wX_makeClosure_41]
    refine br_t (by decide) ?_
    exact hp
  | succ e ih =>
    intro i F A N g uc hi hbs hps hQ hu0 hN huc H hcu hdone
    have i1 : ¬ (8 : Int32) ≤ nI i := nI_ge (b := 8) (by omega) (by omega)
    have e1 := uv_8 pr i
    have i2 : vp_in (nI (pr * 8 + i)) 128 := vp_in_nI (by omega) (by omega)
    have i3 : (nI (pr * 8 + i)).toNatClampNeg = pr * 8 + i := nI_clamp (by omega)
    have e2 := uv_8 cc i
    have i4 : vp_in (nI (cc * 8 + i)) 256 := vp_in_nI (by omega) (by omega)
    have i5 : (nI (cc * 8 + i)).toNatClampNeg = cc * 8 + i := nI_clamp (by omega)
    have src : (A 5) (pr * 8 + i) = ps (pr * 8 + i) := by rw [hps]
    -- one name done, by the cell that it gets
    have step : ∀ (F1 : Nat → Int32) (A1 : Nat → Nat → Int32) (N1 g1 : Nat → Nat) (uc1 : Nat) (x7 : Int32), (F1 41) = nI b → (F1 42) = (F 42) → (A1 5) = ps → uc ≤ uc1 → (∀ w, w < uc → N1 w = N w) → (F1 38) = nI uc1 →
        hp_H rn N1 g1 uc1 nd (F1 39) (A1 18) (A1 19) (A1 20) (A1 21) (A1 22) (A1 23) nk nv → (A1 17) = (A 17) →
        (cap i → ∃ u, u < uc1 ∧ x7 = nI u ∧ Ev i = nI (N1 u)) → (¬ cap i → x7 = -1) →
        ∃ (N' g' : Nat → Nat) (uc' : Nat) (c' h' : Int32) (ur' ux' cu' : Nat → Int32), uc0 ≤ uc' ∧ (∀ w, w < uc0 → N' w = N0 w) ∧ c' = nI uc' ∧ hp_H rn N' g' uc' nd h' ur' (A1 19) (A1 20) ux' (A1 22) (A1 23) nk nv ∧ (∀ j, j < cc * 8 → cu' j = cu0 j) ∧
          (∀ m, m < 8 → (cap m → ∃ u, u < uc' ∧ cu' (cc * 8 + m) = nI u ∧ Ev m = nI (N' u)) ∧ (¬ cap m → cu' (cc * 8 + m) = -1)) ∧
          ∀ (post : Int32 → SX → Prop) (fuel : Nat), e < fuel → wpX_setRegister (fun u => match u with | (f0, f1, f2, f3, f4, f5, f6, f7, f8, f9, f10, f11, f12, f13, f14, f15, f16, f17, f18, f19, f20, f21, f22, f23, f24, f25, f26, f27, f28, f29, f30, f31, f32, f33, f34, f35, f36, f37, f38, f39, f40, f41, f42, f43, f44, a0, a1, a2, a3, a4, a5, a6, a7, a8, a9, a10, a11, a12, a13, a14, a15, a16, a17, a18, a19, a20, a21, a22, a23, a24, a25, a26) => post 0 (f0, f1, f2, f3, f4, f5, f6, f7, f8, f9, f10, f11, f12, f13, f14, f15, f16, f17, f18, f19, f20, f21, f22, f23, f24, f25, f26, f27, f28, f29, f30, f31, f32, f33, f34, f35, f36, f37, f38, f39, x3, f41, f42, f43, f44, a0, a1, a2, a3, a4, a5, a6, a7, a8, a9, a10, a11, a12, a13, a14, a15, a16, a17, a18, a19, a20, a21, a22, a23, a24, a25, a26)) (uv_X (uv_st (uv_st F1 38 (c')) 39 (h')) (uv_st (uv_st (uv_st A1 18 (ur')) 21 (ux')) 17 (cu'))) x1 1 (nI cc) →
            wX_makeClosure_116 post (wX_makeClosure_41 post x1 (nI pr) x3 (nI cc) fuel) x1 (nI pr) x3 (nI cc) (nI i) x7 (F1 0) (F1 1) (F1 2) (F1 3) (F1 4) (F1 5) (F1 6) (F1 7) (F1 8) (F1 9) (F1 10) (F1 11) (F1 12) (F1 13) (F1 14) (F1 15) (F1 16) (F1 17) (F1 18) (F1 19) (F1 20) (F1 21) (F1 22) (F1 23) (F1 24) (F1 25) (F1 26) (F1 27) (F1 28) (F1 29) (F1 30) (F1 31) (F1 32) (F1 33) (F1 34) (F1 35) (F1 36) (F1 37) (F1 38) (F1 39) (F1 40) (F1 41) (F1 42) (F1 43) (F1 44) (A1 0) (A1 1) (A1 2) (A1 3) (A1 4) (A1 5) (A1 6) (A1 7) (A1 8) (A1 9) (A1 10) (A1 11) (A1 12) (A1 13) (A1 14) (A1 15) (A1 16) (A1 17) (A1 18) (A1 19) (A1 20) (A1 21) (A1 22) (A1 23) (A1 24) (A1 25) (A1 26) := by
      intro F1 A1 N1 g1 uc1 x7 k1 k2 k3 k4 k5 k6 k7 k8 k9 k10
      obtain ⟨N', g', uc', c', h', ur', ux', cu', r1, r2, r3, r4, r5, r6, K⟩ := ih (i + 1) F1 (uv_st A1 17 (upd (A1 17) (cc * 8 + i) x7)) N1 g1 uc1 (by omega) k1 k3 (by rw [k2]; exact hQ) (by omega) (fun w hw => by rw [k5 w (by omega)]; exact hN w hw) k6 k7
        (fun j hj => by
          show upd ((A1 17)) (cc * 8 + i) x7 j = cu0 j
          rw [pk_un (by omega), k8]; exact hcu j hj)
        (fun m hm => by
          show (cap m → ∃ u, u < uc1 ∧ upd ((A1 17)) (cc * 8 + i) x7 (cc * 8 + m) = nI u ∧ Ev m = nI (N1 u)) ∧ (¬ cap m → upd ((A1 17)) (cc * 8 + i) x7 (cc * 8 + m) = -1)
          by_cases c : m = i
          · rw [c, pk_us]; exact ⟨k9, k10⟩
          · rw [pk_un (by omega), k8]
            obtain ⟨d1, d2⟩ := hdone m (by omega)
            refine ⟨fun z => ?_, d2⟩
            obtain ⟨u, u1, u2, u3⟩ := d1 z
            exact ⟨u, by omega, u2, by rw [k5 u u1]; exact u3⟩)
      refine ⟨N', g', uc', c', h', ur', ux', cu', r1, r2, r3, r4, r5, r6, fun post fuel hf hp => ?_⟩
      unfold wX_makeClosure_116
      rw [e2, i5]
      exact ⟨i4, nm_e (nm_r (nI_1 i) (K post fuel hf hp))⟩
    rcases hQ i (by omega) with ⟨q1, q2⟩ | ⟨l, v, q1, q2, q3, q4, q5⟩ | ⟨q1, q2, t, u, q3, ht, u1, u2, u3⟩
    · obtain ⟨N', g', uc', c', h', ur', ux', cu', r1, r2, r3, r4, r5, r6, K⟩ := step F A N g uc (-1) hbs rfl hps (Nat.le_refl _) (fun _ _ => rfl) huc H rfl (fun z => absurd z q2) (fun _ => rfl)
      refine ⟨N', g', uc', c', h', ur', ux', cu', r1, r2, r3, r4, r5, r6, fun post fuel hf hp => ?_⟩
      obtain ⟨m, rfl⟩ : ∃ m, fuel = m + 1 := ⟨fuel - 1, by omega⟩
      rw [wX_makeClosure_41]
      refine br_f i1 ?_
      rw [e1, i3, src, q1]
      exact ⟨i2, nm_e <| br_t (by decide) <| br_f (by decide) (K post m (by omega) hp)⟩
    · have hL : (F 41) + nI l = nI (b + l) := by rw [hbs, nI_add]
      obtain ⟨u, uc1, N1, g1, c1, h1, ur1, ux1, o1, o2, o3, o4, o5, o6, O⟩ := xw_openUp (F := F) (A := A) hL huc q3 H
      obtain ⟨N', g', uc', c', h', ur', ux', cu', r1, r2, r3, r4, r5, r6, K⟩ := step (uv_st (uv_st F 38 (c1)) 39 (h1)) (uv_st (uv_st A 18 (ur1)) 21 (ux1)) N1 g1 uc1 (nI u) hbs rfl hps o1 o2 o5 o6 rfl (fun _ => ⟨u, o3, rfl, by rw [o4]; exact q5⟩) (fun z => absurd q4 z)
      refine ⟨N', g', uc', c', h', ur', ux', cu', r1, r2, r3, r4, r5, r6, fun post fuel hf hp => ?_⟩
      obtain ⟨m, rfl⟩ : ∃ m, fuel = m + 1 := ⟨fuel - 1, by omega⟩
      rw [wX_makeClosure_41]
      refine br_f i1 ?_
      rw [e1, i3, src, q1]
      refine ⟨i2, nm_e <| br_f (nI_pos (by omega)) ?_⟩
      exact O _ (K post m (by omega) hp)
    · obtain ⟨N', g', uc', c', h', ur', ux', cu', r1, r2, r3, r4, r5, r6, K⟩ := step F A N g uc (nI u) hbs rfl hps (Nat.le_refl _) (fun _ _ => rfl) huc H rfl (fun _ => ⟨u, by omega, rfl, by rw [hN u u1]; exact u3⟩) (fun z => absurd q2 z)
      refine ⟨N', g', uc', c', h', ur', ux', cu', r1, r2, r3, r4, r5, r6, fun post fuel hf hp => ?_⟩
      obtain ⟨m, rfl⟩ : ∃ m, fuel = m + 1 := ⟨fuel - 1, by omega⟩
      have e3 : (F 42) * 8 + nI i = nI (t * 8 + i) := by rw [q3]; exact uv_8 t i
      have k1 : vp_in ((F 42) * 8 + nI i) 256 := by rw [e3]; exact vp_in_nI (by omega) (by omega)
      have k2 : ((F 42) * 8 + nI i).toNatClampNeg = t * 8 + i := by rw [e3]; exact nI_clamp (by omega)
      rw [wX_makeClosure_41]
      refine br_f i1 ?_
      rw [e1, i3, src, q1]
      exact ⟨i2, nm_e <| br_t (by decide) <| br_t rfl <| br_f (by rw [q3]; exact nI_pos (by omega)) ⟨k1, nm_r (e' := nI u) (by rw [k2, hcu _ (by omega)]; exact u2) (K post m (by omega) hp)⟩⟩
end
section
variable {nk nv : Nat → Int32} {rn N g : Nat → Nat} {nd cc pr b uc n p r mc : Nat} {cap : Nat → Prop} {Ev : Nat → Int32} {F : Nat → Int32} {A : Nat → Nat → Int32}
theorem xs_5f {post : Int32 → SX → Prop} (hH : xs_H F A n p r) (hc : (A 0) p = 5) (hcc : (F 37) = nI cc) (hmc : (F 27) = nI mc) (hm2 : mc ≤ 32) (hle : mc ≤ cc) (hc32 : cc ≤ 32) (h : post 9 (uv_X (uv_st F 40 (nI (p + 1))) A)) : wpX_step post (uv_X F A) := by
  have i1 : vp_in ((F 40)) 96 := by rw [hH.1]; exact vp_in_nI (by have := hH.2.2.1; have := hH.2.2.2.1; omega) (by omega)
  have i2 : ((F 40)).toNatClampNeg = p := by rw [hH.1]; exact nI_clamp (by have := hH.2.2.1; have := hH.2.2.2.1; omega)
  unfold wpX_step uv_X
  refine br_f (by rw [hH.1]; exact nI_pos (by have := hH.2.2.1; have := hH.2.2.2.1; omega)) <| br_t (by rw [hH.1, hH.2.1]; exact nI_lt hH.2.2.1 (by have := hH.2.2.2.1; omega)) <| nm_r (e' := nI (p + 1)) (by rw [hH.1]; exact nI_1 p) ⟨i1, nm_r (e' := nI r) (by rw [i2]; exact hH.2.2.2.2) ⟨i1, nm_r (e' := (A 2) p) (by rw [i2]) ⟨i1, nm_r (e' := 5) (by rw [i2]; exact hc) <| br_f (by decide) <| br_f (by decide) <| br_f uv_n_5_0 <| br_f uv_n_5_1 <| br_f uv_n_5_2 <| br_f uv_n_5_3 <| br_f uv_n_5_4 <| br_t rfl ?_⟩⟩⟩
  refine ⟨i1, ?_⟩
  unfold wpX_makeClosure
  exact br_f (by show ¬ (F 37) < (F 27); rw [hcc, hmc]; exact nI_nlt hle (by omega)) h
theorem xs_5 (hH : xs_H F A n p r) (hc : (A 0) p = 5) (hr : r < 176) (hcc : (F 37) = nI cc) (hmc : (F 27) = nI mc) (hm2 : mc ≤ 32) (hlt : cc < mc) (hpr : (A 2) p = nI pr) (hpr2 : pr < 16) (hb : (F 41) = nI b) (hb2 : b < 1000)
    (hQ : ∀ m, m < 8 → xu_Q rn b cc uc N cap Ev ((A 17)) ((A 5) (pr * 8 + m)) (F 42) m) (huc : (F 38) = nI uc)
    (H : hp_H rn N g uc nd (F 39) (A 18) (A 19) (A 20) (A 21) (A 22) (A 23) nk nv) :
    ∃ (N' g' : Nat → Nat) (uc' : Nat) (c' h' : Int32) (ur' ux' cu' : Nat → Int32), uc ≤ uc' ∧ (∀ w, w < uc → N' w = N w) ∧ c' = nI uc' ∧ hp_H rn N' g' uc' nd h' ur' (A 19) (A 20) ux' (A 22) (A 23) nk nv ∧ (∀ j, j < cc * 8 → cu' j = (A 17) j) ∧
      (∀ m, m < 8 → (cap m → ∃ u, u < uc' ∧ cu' (cc * 8 + m) = nI u ∧ Ev m = nI (N' u)) ∧ (¬ cap m → cu' (cc * 8 + m) = -1)) ∧
      ∀ (post : Int32 → SX → Prop), post 0 (uv_X (uv_st (uv_st (uv_st (uv_st F 38 (c')) 39 (h')) 40 ((A 3) p)) 37 (nI (cc + 1))) (uv_st (uv_st (uv_st (uv_st (uv_st (uv_st A 18 (ur')) 21 (ux')) 17 (cu')) 16 (upd (A 16) cc ((A 2) p))) 22 (upd (A 22) r 1)) 23 (upd (A 23) r ((F 37))))) → wpX_step post (uv_X F A) := by
  obtain ⟨N', g', uc', c', h', ur', ux', cu', r1, r2, r3, r4, r5, r6, K⟩ := xu_mk_lp (x1 := nI r) (x3 := (A 3) p) (cc := cc) (pr := pr) (b := b) (uc0 := uc) (N0 := N) (cap := cap) (Ev := Ev) (cu0 := (A 17)) (ps := (A 5)) (nd := nd) (rn := rn) (nk := nk) (nv := nv)
    (by omega) hb2 hpr2 8 0 (uv_st (uv_st F 40 (nI (p + 1))) 37 (nI (cc + 1))) (uv_st A 16 (upd (A 16) cc ((A 2) p))) N g uc (by omega) hb rfl hQ (Nat.le_refl _) (fun _ _ => rfl) huc H (fun _ _ => rfl) (fun m hm => by omega)
  refine ⟨N', g', uc', c', h', ur', ux', cu', r1, r2, r3, r4, r5, r6, fun post hp => ?_⟩
  have K' := K post 9 (by omega) (xw_setReg (F := (uv_st (uv_st (uv_st (uv_st F 40 (nI (p + 1))) 37 (nI (cc + 1))) 38 (c')) 39 (h'))) (A := (uv_st (uv_st (uv_st (uv_st A 16 (upd (A 16) cc ((A 2) p))) 18 (ur')) 21 (ux')) 17 (cu'))) (r := r) rfl hr (by rw [hcc] at hp; exact hp))
  have i1 : vp_in ((F 40)) 96 := by rw [hH.1]; exact vp_in_nI (by have := hH.2.2.1; have := hH.2.2.2.1; omega) (by omega)
  have i2 : ((F 40)).toNatClampNeg = p := by rw [hH.1]; exact nI_clamp (by have := hH.2.2.1; have := hH.2.2.2.1; omega)
  unfold wpX_step uv_X
  refine br_f (by rw [hH.1]; exact nI_pos (by have := hH.2.2.1; have := hH.2.2.2.1; omega)) <| br_t (by rw [hH.1, hH.2.1]; exact nI_lt hH.2.2.1 (by have := hH.2.2.2.1; omega)) <| nm_r (e' := nI (p + 1)) (by rw [hH.1]; exact nI_1 p) ⟨i1, nm_r (e' := nI r) (by rw [i2]; exact hH.2.2.2.2) ⟨i1, nm_r (e' := (A 2) p) (by rw [i2]) ⟨i1, nm_r (e' := 5) (by rw [i2]; exact hc) <| br_f (by decide) <| br_f (by decide) <| br_f uv_n_5_0 <| br_f uv_n_5_1 <| br_f uv_n_5_2 <| br_f uv_n_5_3 <| br_f uv_n_5_4 <| br_t rfl ?_⟩⟩⟩
  refine ⟨i1, ?_⟩
  unfold wpX_makeClosure
  refine br_t (by show (F 37) < (F 27); rw [hcc, hmc]; exact nI_lt hlt (by omega)) ?_
  refine nm_r (e' := nI (cc + 1)) (by show (F 37) + 1 = _; rw [hcc]; exact nI_1 cc) ⟨by show vp_in ((F 37)) 32; rw [hcc]; exact vp_in_nI (by omega) (by omega), ?_⟩
  refine nm_r (e' := upd (A 16) cc ((A 2) p)) (by show upd (A 16) ((F 37)).toNatClampNeg ((A 2) p) = _; rw [hcc, nI_clamp (by omega)]) ⟨9, ?_⟩
  rw [← hcc, ← hpr] at K'
  rw [i2]
  exact K'
end
end
section
/-! the reference's steps -/
def yp_H (G : Nat → Int32) (B : Nat → Nat → Int32) (n p c : Nat) : Prop := (G 15) = nI (c + 1) ∧ c < 12 ∧ (G 4) = nI n ∧ n ≤ 96 ∧ p < n ∧ (B 16) c = nI p
/-- fields that the steps within a frame leave alone; what they leave of the arrays -/
def yp_G (G G' : Nat → Int32) : Prop := ∀ i, i < 16 → G' i = G i
section
variable {G : Nat → Int32} {B : Nat → Nat → Int32} {n p c o : Nat} {post : SY → Prop} {x y : Int32}
theorem yp_0 (hH : yp_H G B n p c) (hc : (B 0) p = 0) (ho : (B 18) c = nI o) (ho6 : o < 6)
    (h : post (uv_Y G (uv_st (uv_st (uv_st (uv_st B 16 (upd (B 16) c (nI (p + 1)))) 20 (upd (B 20) (c * 6 + o) 0)) 21 (upd (B 21) (c * 6 + o) ((B 1) p))) 18 (upd (B 18) c (nI (o + 1)))))) : wpY_step post (uv_Y G B) := by
  have i1 : vp_in (nI c) 12 := vp_in_nI hH.2.1 (by omega)
  have i2 : (nI c).toNatClampNeg = c := nI_clamp (by have := hH.2.1; omega)
  have i3 : vp_in (nI p) 96 := vp_in_nI (by have := hH.2.2.2.1; have := hH.2.2.2.2.1; omega) (by omega)
  have i4 : (nI p).toNatClampNeg = p := nI_clamp (by have := hH.2.2.2.1; have := hH.2.2.2.2.1; omega)
  unfold wpY_step uv_Y
  refine nm_r (e' := nI c) (uv_p1 hH.1) ⟨i1, nm_r (e' := nI p) (by rw [i2]; exact hH.2.2.2.2.2) <| br_t (by rw [hH.2.2.1]; exact nI_lt hH.2.2.2.2.1 (by have := hH.2.2.2.1; omega)) ⟨i1, nm_r (e' := upd (B 16) c (nI (p + 1))) (by rw [i2, nI_1]) ⟨i3, nm_r (e' := (B 1) p) (by rw [i4]) ⟨i3, nm_r (e' := 0) (by rw [i4]; exact hc) <| br_f (by decide) <| br_f (by decide) <| br_t rfl ?_⟩⟩⟩⟩
  exact yw_push (G := G) (B := (uv_st B 16 (upd (B 16) c (nI (p + 1))))) hH.1 hH.2.1 ho ho6 h
theorem yp_1 {E : Nat → Int32} {nd v : Nat} {s : ss_T} (hH : yp_H G B n p c) (hc : (B 0) p = 1) (ho : (B 18) c = nI o) (ho6 : o < 6) (hE : ev_E E nd (B 15) (B 12) s) (hnd : nd ≤ 160) (hV : ss_V s ≤ 88) (he : (B 17) c = E (ss_V s)) (hv : E (ss_l s ((B 1) p)) = nI v) (hv2 : v < nd)
    (h : post (uv_Y G (uv_st (uv_st (uv_st (uv_st B 16 (upd (B 16) c (nI (p + 1)))) 20 (upd (B 20) (c * 6 + o) ((B 13) v))) 21 (upd (B 21) (c * 6 + o) ((B 14) v))) 18 (upd (B 18) c (nI (o + 1)))))) : wpY_step post (uv_Y G B) := by
  have i1 : vp_in (nI c) 12 := vp_in_nI hH.2.1 (by omega)
  have i2 : (nI c).toNatClampNeg = c := nI_clamp (by have := hH.2.1; omega)
  have i3 : vp_in (nI p) 96 := vp_in_nI (by have := hH.2.2.2.1; have := hH.2.2.2.2.1; omega) (by omega)
  have i4 : (nI p).toNatClampNeg = p := nI_clamp (by have := hH.2.2.2.1; have := hH.2.2.2.2.1; omega)
  unfold wpY_step uv_Y
  refine nm_r (e' := nI c) (uv_p1 hH.1) ⟨i1, nm_r (e' := nI p) (by rw [i2]; exact hH.2.2.2.2.2) <| br_t (by rw [hH.2.2.1]; exact nI_lt hH.2.2.2.2.1 (by have := hH.2.2.2.1; omega)) ⟨i1, nm_r (e' := upd (B 16) c (nI (p + 1))) (by rw [i2, nI_1]) ⟨i3, nm_r (e' := (B 1) p) (by rw [i4]) ⟨i3, nm_r (e' := 1) (by rw [i4]; exact hc) <| br_f (by decide) <| br_f (by decide) <| br_f uv_n_1_0 <| br_t rfl ?_⟩⟩⟩⟩
  have j1 : vp_in (nI v) 160 := vp_in_nI (by omega) (by omega)
  have j2 : (nI v).toNatClampNeg = v := nI_clamp (by omega)
  refine ⟨i1, ?_⟩
  rw [i2, he]
  refine yw_lookup (G := G) (B := (uv_st B 16 (upd (B 16) c (nI (p + 1))))) hE hnd hV (Nat.le_refl _) ?_
  have hv' : E (ss_ls (ss_N s) ((B 1) p) (ss_V s)) = nI v := hv
  rw [hv']
  refine br_f (nI_pos (by omega)) ⟨j1, j1, ?_⟩
  rw [j2]
  exact yw_push (G := G) (B := (uv_st B 16 (upd (B 16) c (nI (p + 1))))) hH.1 hH.2.1 ho ho6 h
theorem yp_2 {k : Int32} (hH : yp_H G B n p c) (hc : (B 0) p = 2) (hk : (B 1) p = k) (ho : (B 18) c = nI (o + 2)) (ho6 : o + 1 < 6) (kx : (B 20) (c * 6 + o) = 0 ∨ (B 20) (c * 6 + o) = 1) (ky : (B 20) (c * 6 + (o + 1)) = 0 ∨ (B 20) (c * 6 + (o + 1)) = 1)
    (h1 : ∀ v, uv_op k ((B 20) (c * 6 + o)) ((B 21) (c * 6 + o)) ((B 20) (c * 6 + (o + 1))) ((B 21) (c * 6 + (o + 1))) = some v →
      post (uv_Y (uv_st (uv_st G 17 ((B 20) (c * 6 + o))) 18 ((B 21) (c * 6 + o))) (uv_st (uv_st (uv_st (uv_st B 16 (upd (B 16) c (nI (p + 1)))) 18 (upd (upd (upd (B 18) c (nI (o + 1))) c (nI o)) c (nI (o + 1)))) 20 (upd (B 20) (c * 6 + o) 0)) 21 (upd (B 21) (c * 6 + o) v))))
    (h2 : uv_op k ((B 20) (c * 6 + o)) ((B 21) (c * 6 + o)) ((B 20) (c * 6 + (o + 1))) ((B 21) (c * 6 + (o + 1))) = none →
      post (uv_Y (uv_st (uv_st (uv_st G 17 ((B 20) (c * 6 + o))) 18 ((B 21) (c * 6 + o))) 16 (5)) (uv_st (uv_st B 16 (upd (B 16) c (nI (p + 1)))) 18 (upd (upd (B 18) c (nI (o + 1))) c (nI o))))) : wpY_step post (uv_Y G B) := by
  have i1 : vp_in (nI c) 12 := vp_in_nI hH.2.1 (by omega)
  have i2 : (nI c).toNatClampNeg = c := nI_clamp (by have := hH.2.1; omega)
  have i3 : vp_in (nI p) 96 := vp_in_nI (by have := hH.2.2.2.1; have := hH.2.2.2.2.1; omega) (by omega)
  have i4 : (nI p).toNatClampNeg = p := nI_clamp (by have := hH.2.2.2.1; have := hH.2.2.2.2.1; omega)
  unfold wpY_step uv_Y
  refine nm_r (e' := nI c) (uv_p1 hH.1) ⟨i1, nm_r (e' := nI p) (by rw [i2]; exact hH.2.2.2.2.2) <| br_t (by rw [hH.2.2.1]; exact nI_lt hH.2.2.2.2.1 (by have := hH.2.2.2.1; omega)) ⟨i1, nm_r (e' := upd (B 16) c (nI (p + 1))) (by rw [i2, nI_1]) ⟨i3, nm_r (e' := (B 1) p) (by rw [i4]) ⟨i3, nm_r (e' := 2) (by rw [i4]; exact hc) <| br_f (by decide) <| br_f (by decide) <| br_f uv_n_2_0 <| br_f uv_n_2_1 <| br_t rfl ?_⟩⟩⟩⟩
  unfold wpY_operate
  refine yw_pop (G := G) (B := (uv_st B 16 (upd (B 16) c (nI (p + 1))))) (o := o + 1) hH.1 hH.2.1 ho ho6 (fun G1 B1 eG1 eB1 => ?_)
  subst eG1 eB1
  have o1 : upd ((B 18)) c (nI (o + 1)) c = nI (o + 1) := pk_us
  refine yw_pop (G := (uv_st (uv_st G 17 ((B 20) (c * 6 + (o + 1)))) 18 ((B 21) (c * 6 + (o + 1))))) (B := (uv_st (uv_st B 16 (upd (B 16) c (nI (p + 1)))) 18 (upd (B 18) c (nI (o + 1))))) (o := o) hH.1 hH.2.1 o1 (by omega) (fun G2 B2 eG2 eB2 => ?_)
  have g1 : yp_G G G2 := fun i hi => by rw [eG2]; exact (uv_sn (by omega)).trans ((uv_sn (by omega)).trans ((uv_sn (by omega)).trans (uv_sn (by omega))))
  have g3 : (G2 17) = (B 20) (c * 6 + o) := by rw [eG2]; rfl
  have g4 : (G2 18) = (B 21) (c * 6 + o) := by rw [eG2]; rfl
  have b3 : (B2 18) c = nI o := by rw [eB2]; exact pk_us
  have push : ∀ v, uv_op k ((B 20) (c * 6 + o)) ((B 21) (c * 6 + o)) ((B 20) (c * 6 + (o + 1))) ((B 21) (c * 6 + (o + 1))) = some v → ∀ p2 : SY → Prop, (∀ u, post u → p2 u) → wpY_push p2 (uv_Y G2 B2) 0 v := by
    intro v hv p2 hp2
    refine yw_push (G := G2) (B := B2) ((g1 15 (by omega)).trans hH.1) hH.2.1 b3 (by omega) (hp2 _ ?_)
    have := h1 v hv
    rw [eG2, eB2]
    exact this
  have err : uv_op k ((B 20) (c * 6 + o)) ((B 21) (c * 6 + o)) ((B 20) (c * 6 + (o + 1))) ((B 21) (c * 6 + (o + 1))) = none → post (uv_Y (uv_st G2 16 (5)) B2) := by
    intro hv
    have := h2 hv
    rw [eG2, eB2]
    exact this
  unfold uv_op at push err
  rw [hk]
  show (k = 4 → (((G2 17) = (B 20) (c * 6 + (o + 1)) → (((G2 18) = (B 21) (c * 6 + (o + 1)) → wY_operate_54 post 1 0 (G2 0) (G2 1) (G2 2) (G2 3) (G2 4) (G2 5) (G2 6) (G2 7) (G2 8) (G2 9) (G2 10) (G2 11) (G2 12) (G2 13) (G2 14) (G2 15) (G2 16) (G2 17) (G2 18) (B2 0) (B2 1) (B2 2) (B2 3) (B2 4) (B2 5) (B2 6) (B2 7) (B2 8) (B2 9) (B2 10) (B2 11) (B2 12) (B2 13) (B2 14) (B2 15) (B2 16) (B2 17) (B2 18) (B2 19) (B2 20) (B2 21) (B2 22) (B2 23)) ∧ (¬ (G2 18) = (B 21) (c * 6 + (o + 1)) → wY_operate_53 post 0 (G2 0) (G2 1) (G2 2) (G2 3) (G2 4) (G2 5) (G2 6) (G2 7) (G2 8) (G2 9) (G2 10) (G2 11) (G2 12) (G2 13) (G2 14) (G2 15) (G2 16) (G2 17) (G2 18) (B2 0) (B2 1) (B2 2) (B2 3) (B2 4) (B2 5) (B2 6) (B2 7) (B2 8) (B2 9) (B2 10) (B2 11) (B2 12) (B2 13) (B2 14) (B2 15) (B2 16) (B2 17) (B2 18) (B2 19) (B2 20) (B2 21) (B2 22) (B2 23)))) ∧ (¬ (G2 17) = (B 20) (c * 6 + (o + 1)) → wY_operate_53 post 0 (G2 0) (G2 1) (G2 2) (G2 3) (G2 4) (G2 5) (G2 6) (G2 7) (G2 8) (G2 9) (G2 10) (G2 11) (G2 12) (G2 13) (G2 14) (G2 15) (G2 16) (G2 17) (G2 18) (B2 0) (B2 1) (B2 2) (B2 3) (B2 4) (B2 5) (B2 6) (B2 7) (B2 8) (B2 9) (B2 10) (B2 11) (B2 12) (B2 13) (B2 14) (B2 15) (B2 16) (B2 17) (B2 18) (B2 19) (B2 20) (B2 21) (B2 22) (B2 23)))) ∧
    (¬ k = 4 → (((G2 17) = 1 → post (uv_Y (uv_st G2 16 (5)) B2)) ∧ (¬ (G2 17) = 1 → (((B 20) (c * 6 + (o + 1)) = 1 → post (uv_Y (uv_st G2 16 (5)) B2)) ∧ (¬ (B 20) (c * 6 + (o + 1)) = 1 → ((k = 0 → wpY_push post (uv_Y G2 B2) 0 ((G2 18) + (B 21) (c * 6 + (o + 1)))) ∧ (¬ k = 0 → ((k = 1 → wpY_push post (uv_Y G2 B2) 0 ((G2 18) - (B 21) (c * 6 + (o + 1)))) ∧ (¬ k = 1 → ((k = 2 → wpY_push post (uv_Y G2 B2) 0 ((G2 18) * (B 21) (c * 6 + (o + 1)))) ∧ (¬ k = 2 → (((B 21) (c * 6 + (o + 1)) ≤ (G2 18) → wY_operate_142 post 0 0 (G2 0) (G2 1) (G2 2) (G2 3) (G2 4) (G2 5) (G2 6) (G2 7) (G2 8) (G2 9) (G2 10) (G2 11) (G2 12) (G2 13) (G2 14) (G2 15) (G2 16) (G2 17) (G2 18) (B2 0) (B2 1) (B2 2) (B2 3) (B2 4) (B2 5) (B2 6) (B2 7) (B2 8) (B2 9) (B2 10) (B2 11) (B2 12) (B2 13) (B2 14) (B2 15) (B2 16) (B2 17) (B2 18) (B2 19) (B2 20) (B2 21) (B2 22) (B2 23)) ∧ (¬ (B 21) (c * 6 + (o + 1)) ≤ (G2 18) → wY_operate_142 post 1 0 (G2 0) (G2 1) (G2 2) (G2 3) (G2 4) (G2 5) (G2 6) (G2 7) (G2 8) (G2 9) (G2 10) (G2 11) (G2 12) (G2 13) (G2 14) (G2 15) (G2 16) (G2 17) (G2 18) (B2 0) (B2 1) (B2 2) (B2 3) (B2 4) (B2 5) (B2 6) (B2 7) (B2 8) (B2 9) (B2 10) (B2 11) (B2 12) (B2 13) (B2 14) (B2 15) (B2 16) (B2 17) (B2 18) (B2 19) (B2 20) (B2 21) (B2 22) (B2 23))))))))))))))
  rw [← g3, ← g4] at push err
  rw [← g3] at kx
  refine br_c (fun e4 => ?_) (fun e4 => ?_)
  · rw [if_pos e4] at push
    refine br_c (fun ek => br_c (fun ev => ?_) (fun ev => ?_)) (fun ek => ?_)
    · rw [if_pos ⟨ek, ev⟩] at push
      exact push 1 rfl _ (fun u hu => hu)
    · rw [if_neg (fun z => ev z.2)] at push
      exact push 0 rfl _ (fun u hu => hu)
    · rw [if_neg (fun z => ek z.1)] at push
      exact push 0 rfl _ (fun u hu => hu)
  · rw [if_neg e4] at push err
    refine br_c (fun k1 => err (by rw [if_neg (fun z => by rw [z.1] at k1; exact absurd k1 (by decide))])) (fun k1 => br_c (fun k2 => err (by rw [if_neg (fun z => by rw [z.2] at k2; exact absurd k2 (by decide))])) (fun k2 => ?_))
    have x0 : (G2 17) = 0 := kx.resolve_right k1
    have y0 : (B 20) (c * 6 + (o + 1)) = 0 := ky.resolve_right k2
    rw [if_pos ⟨x0, y0⟩] at push
    refine br_c (fun e => ?_) (fun e => br_c (fun e1 => ?_) (fun e1 => br_c (fun e2 => ?_) (fun e2 => br_c (fun el => ?_) (fun el => ?_))))
    · rw [if_pos e] at push
      exact push _ rfl _ (fun u hu => hu)
    · rw [if_neg e, if_pos e1] at push
      exact push _ rfl _ (fun u hu => hu)
    · rw [if_neg e, if_neg e1, if_pos e2] at push
      exact push _ rfl _ (fun u hu => hu)
    · rw [if_neg e, if_neg e1, if_neg e2, if_pos el] at push
      exact push _ rfl _ (fun u hu => hu)
    · rw [if_neg e, if_neg e1, if_neg e2, if_neg el] at push
      exact push _ rfl _ (fun u hu => hu)
end
end
section
/-! the reference's steps: calls, functions, variables -/
section
variable {G : Nat → Int32} {B : Nat → Nat → Int32} {n p c o fu nd : Nat} {post : SY → Prop}
theorem yp_3 {md t w : Nat} (hH : yp_H G B n p c) (hc : (B 0) p = 3) (ho : (B 18) c = nI (o + 2)) (ho6 : o + 1 < 6) (hmd : (G 2) = nI md) (hmd2 : md ≤ 12) (hf : (G 12) = nI fu) (hfu : fu < 1000) (hnd : (G 14) = nI nd) (hnd2 : nd + fu ≤ 160)
    (ht : (B 20) (c * 6 + o) ≠ 0 → (B 21) (c * 6 + o) = nI t ∧ t < 32 ∧ (B 10) t = nI w ∧ w < 96)
    (h6 : (B 20) (c * 6 + o) = 0 → post (uv_Y (uv_st (uv_st (uv_st G 17 ((B 20) (c * 6 + o))) 18 ((B 21) (c * 6 + o))) 16 (6)) (uv_st (uv_st B 16 (upd (B 16) c (nI (p + 1)))) 18 (upd (upd (B 18) c (nI (o + 1))) c (nI o)))))
    (h7 : (B 20) (c * 6 + o) ≠ 0 → md ≤ c + 1 → post (uv_Y (uv_st (uv_st (uv_st G 17 ((B 20) (c * 6 + o))) 18 ((B 21) (c * 6 + o))) 16 (7)) (uv_st (uv_st B 16 (upd (B 16) c (nI (p + 1)))) 18 (upd (upd (B 18) c (nI (o + 1))) c (nI o)))))
    (h8 : (B 20) (c * 6 + o) ≠ 0 → c + 1 < md → fu = 0 → post (uv_Y (uv_st (uv_st (uv_st G 17 ((B 20) (c * 6 + o))) 18 ((B 21) (c * 6 + o))) 16 (8)) (uv_st (uv_st B 16 (upd (B 16) c (nI (p + 1)))) 18 (upd (upd (B 18) c (nI (o + 1))) c (nI o)))))
    (h0 : ∀ f, (B 20) (c * 6 + o) ≠ 0 → c + 1 < md → fu = f + 1 → post (uv_Y (uv_st (uv_st (uv_st (uv_st (uv_st G 17 ((B 20) (c * 6 + o))) 18 ((B 21) (c * 6 + o))) 12 (nI f)) 15 (nI (c + 2))) 14 (nI (nd + 1)))
      (uv_st (uv_st (uv_st (uv_st (uv_st (uv_st (uv_st (uv_st B 16 (upd (upd (B 16) c (nI (p + 1))) (c + 1) (nI (w + 1)))) 18 (upd (upd (upd (B 18) c (nI (o + 1))) c (nI o)) (c + 1) 0)) 19 (upd (B 19) (c + 1) 0)) 12 (upd (B 12) nd ((B 1) w))) 13 (upd (B 13) nd ((B 20) (c * 6 + (o + 1))))) 14 (upd (B 14) nd ((B 21) (c * 6 + (o + 1))))) 15 (upd (B 15) nd ((B 11) t))) 17 (upd (B 17) (c + 1) (nI nd))))) : wpY_step post (uv_Y G B) := by
  have i1 : vp_in (nI c) 12 := vp_in_nI hH.2.1 (by omega)
  have i2 : (nI c).toNatClampNeg = c := nI_clamp (by have := hH.2.1; omega)
  have i3 : vp_in (nI p) 96 := vp_in_nI (by have := hH.2.2.2.1; have := hH.2.2.2.2.1; omega) (by omega)
  have i4 : (nI p).toNatClampNeg = p := nI_clamp (by have := hH.2.2.2.1; have := hH.2.2.2.2.1; omega)
  unfold wpY_step uv_Y
  refine nm_r (e' := nI c) (uv_p1 hH.1) ⟨i1, nm_r (e' := nI p) (by rw [i2]; exact hH.2.2.2.2.2) <| br_t (by rw [hH.2.2.1]; exact nI_lt hH.2.2.2.2.1 (by have := hH.2.2.2.1; omega)) ⟨i1, nm_r (e' := upd (B 16) c (nI (p + 1))) (by rw [i2, nI_1]) ⟨i3, nm_r (e' := (B 1) p) (by rw [i4]) ⟨i3, nm_r (e' := 3) (by rw [i4]; exact hc) <| br_f (by decide) <| br_f (by decide) <| br_f uv_n_3_0 <| br_f uv_n_3_1 <| br_f uv_n_3_2 <| br_t rfl ?_⟩⟩⟩⟩
  unfold wpY_doCall
  refine yw_pop (G := G) (B := (uv_st B 16 (upd (B 16) c (nI (p + 1))))) (o := o + 1) hH.1 hH.2.1 ho ho6 (fun G1 B1 eG1 eB1 => ?_)
  subst eG1 eB1
  have o1 : upd ((B 18)) c (nI (o + 1)) c = nI (o + 1) := pk_us
  refine yw_pop (G := (uv_st (uv_st G 17 ((B 20) (c * 6 + (o + 1)))) 18 ((B 21) (c * 6 + (o + 1))))) (B := (uv_st (uv_st B 16 (upd (B 16) c (nI (p + 1)))) 18 (upd (B 18) c (nI (o + 1))))) (o := o) hH.1 hH.2.1 o1 (by omega) (fun G2 B2 eG2 eB2 => ?_)
  have g1 : yp_G G G2 := fun i hi => by rw [eG2]; exact (uv_sn (by omega)).trans ((uv_sn (by omega)).trans ((uv_sn (by omega)).trans (uv_sn (by omega))))
  have g3 : (G2 17) = (B 20) (c * 6 + o) := by rw [eG2]; rfl
  have g4 : (G2 18) = (B 21) (c * 6 + o) := by rw [eG2]; rfl
  have e15 : (G2 15) = nI (c + 1) := (g1 15 (by omega)).trans hH.1
  have e2 : (G2 2) = nI md := (g1 2 (by omega)).trans hmd
  have e12 : (G2 12) = nI fu := (g1 12 (by omega)).trans hf
  have e14 : (G2 14) = nI nd := (g1 14 (by omega)).trans hnd
  show ((G2 17) = 0 → post (uv_Y (uv_st G2 16 (6)) B2)) ∧ (¬ (G2 17) = 0 → (((G2 15) < (G2 2) → wpY_spend _ (uv_Y G2 B2)) ∧ (¬ (G2 15) < (G2 2) → post (uv_Y (uv_st G2 16 (7)) B2))))
  refine br_c (fun k0 => ?_) (fun k0 => ?_)
  · have := h6 (g3.symm.trans k0)
    rw [eG2, eB2]; exact this
  have k1 : (B 20) (c * 6 + o) ≠ 0 := fun z => k0 (g3.trans z)
  obtain ⟨t1, t2, t3, t4⟩ := ht k1
  refine pk_lt (c + 1) md (fun hd => ?_) (fun hd => ?_) e15 e2 (by have := hH.2.1; omega) (by omega)
  · rcases Nat.eq_zero_or_pos fu with z | z
    · rw [z] at e12
      refine yw_spend0 (G := G2) (B := B2) e12 (br_t rfl ?_)
      have := h8 k1 hd z
      rw [eG2, eB2]; exact this
    · obtain ⟨f, rfl⟩ : ∃ f, fu = f + 1 := ⟨fu - 1, by omega⟩
      refine yw_spend (G := G2) (B := B2) e12 (by omega) (br_f (by decide) ?_)
      have g4' : (G2 18) = nI t := g4.trans t1
      have cw : (B2 10) t = nI w := by rw [eB2]; exact t3
      have key : wpY_enter (fun u => post u) (uv_Y (uv_st G2 12 (nI f)) B2) (nI t) ((B 20) (c * 6 + (o + 1))) ((B 21) (c * 6 + (o + 1))) := by
        refine yw_enter (G := (uv_st G2 12 (nI f))) (B := B2) (c := c + 1) (nd := nd) (t := t) (w := w) e14 (by omega) e15 (by omega) t2 cw t4 ?_
        have := h0 f k1 hd rfl
        rw [eG2, eB2]; exact this
      rw [← g4'] at key
      exact key
  · have := h7 k1 hd
    rw [eG2, eB2]; exact this
theorem yp_4 {cc mc q : Nat} {S : Nat → ss_T} (hH : yp_H G B n p c) (hc : (B 0) p = 4) (ho : (B 18) c = nI o) (ho6 : o < 6) (hS : ss_S (B 0) (B 1) n S) (hq : q < n) (hcl : ss_cl (B 0) S p q) (hcc : (G 13) = nI cc) (hmc : (G 3) = nI mc) (hmc2 : mc ≤ 32) (hc32 : cc ≤ 32)
    (h9 : mc ≤ cc → post (uv_Y (uv_st G 16 (9)) (uv_st B 16 (upd (B 16) c (nI (p + 1))))))
    (h0 : cc < mc → post (uv_Y (uv_st G 13 (nI (cc + 1))) (uv_st (uv_st (uv_st (uv_st (uv_st (uv_st B 10 (upd (B 10) cc (nI p))) 11 (upd (B 11) cc ((B 17) c))) 20 (upd (B 20) (c * 6 + o) 1)) 21 (upd (B 21) (c * 6 + o) ((G 13)))) 18 (upd (B 18) c (nI (o + 1)))) 16 (upd (upd (B 16) c (nI (p + 1))) c (nI (q + 1)))))) : wpY_step post (uv_Y G B) := by
  have i1 : vp_in (nI c) 12 := vp_in_nI hH.2.1 (by omega)
  have i2 : (nI c).toNatClampNeg = c := nI_clamp (by have := hH.2.1; omega)
  have i3 : vp_in (nI p) 96 := vp_in_nI (by have := hH.2.2.2.1; have := hH.2.2.2.2.1; omega) (by omega)
  have i4 : (nI p).toNatClampNeg = p := nI_clamp (by have := hH.2.2.2.1; have := hH.2.2.2.2.1; omega)
  unfold wpY_step uv_Y
  refine nm_r (e' := nI c) (uv_p1 hH.1) ⟨i1, nm_r (e' := nI p) (by rw [i2]; exact hH.2.2.2.2.2) <| br_t (by rw [hH.2.2.1]; exact nI_lt hH.2.2.2.2.1 (by have := hH.2.2.2.1; omega)) ⟨i1, nm_r (e' := upd (B 16) c (nI (p + 1))) (by rw [i2, nI_1]) ⟨i3, nm_r (e' := (B 1) p) (by rw [i4]) ⟨i3, nm_r (e' := 4) (by rw [i4]; exact hc) <| br_f (by decide) <| br_f (by decide) <| br_f uv_n_4_0 <| br_f uv_n_4_1 <| br_f uv_n_4_2 <| br_f uv_n_4_3 <| br_t rfl ?_⟩⟩⟩⟩
  refine pk_lt cc mc (fun hlt => ?_) (fun hge => h9 hge) hcc hmc (by omega) (by omega)
  have j1 : vp_in ((G 13)) 32 := by rw [hcc]; exact vp_in_nI (by omega) (by omega)
  have j2 : ((G 13)).toNatClampNeg = cc := by rw [hcc]; exact nI_clamp (by omega)
  refine ⟨j1, nm_r (e' := upd (B 10) cc (nI p)) (by rw [j2]) ⟨i1, j1, nm_r (e' := upd (B 11) cc ((B 17) c)) (by rw [j2, i2]) ?_⟩⟩
  refine yw_push (G := G) (B := (uv_st (uv_st (uv_st B 10 (upd (B 10) cc (nI p))) 11 (upd (B 11) cc ((B 17) c))) 16 (upd (B 16) c (nI (p + 1))))) hH.1 hH.2.1 ho ho6 ?_
  refine nm_r (e' := nI (cc + 1)) (by show (G 13) + 1 = _; rw [hcc]; exact nI_1 cc) ?_
  refine yw_pe (a := (B 1)) (G := (uv_st G 13 (nI (cc + 1)))) (B := (uv_st (uv_st (uv_st (uv_st (uv_st (uv_st B 10 (upd (B 10) cc (nI p))) 11 (upd (B 11) cc ((B 17) c))) 16 (upd (B 16) c (nI (p + 1)))) 20 (upd (B 20) (c * 6 + o) 1)) 21 (upd (B 21) (c * 6 + o) ((G 13)))) 18 (upd (B 18) c (nI (o + 1))))) hS hH.2.2.1 hH.2.2.2.1 hq hcl ?_
  refine ⟨i1, nm_r (e' := upd (upd (B 16) c (nI (p + 1))) c (nI (q + 1))) (by rw [i2, nI_1]; rfl) (h0 hlt)⟩
theorem yp_5 (hH : yp_H G B n p c) (hc : (B 0) p = 5) (ho : (B 18) c = nI (o + 1)) (ho6 : o < 6) (hf : (G 12) = nI fu) (hfu : fu < 1000) (hnd : (G 14) = nI nd) (hnd2 : nd + fu ≤ 160)
    (h8 : fu = 0 → post (uv_Y (uv_st (uv_st (uv_st G 17 ((B 20) (c * 6 + o))) 18 ((B 21) (c * 6 + o))) 16 (8)) (uv_st (uv_st B 16 (upd (B 16) c (nI (p + 1)))) 18 (upd (B 18) c (nI o)))))
    (h0 : ∀ f, fu = f + 1 → post (uv_Y (uv_st (uv_st (uv_st (uv_st G 17 ((B 20) (c * 6 + o))) 18 ((B 21) (c * 6 + o))) 12 (nI f)) 14 (nI (nd + 1))) (uv_st (uv_st (uv_st (uv_st (uv_st (uv_st (uv_st B 16 (upd (B 16) c (nI (p + 1)))) 18 (upd (B 18) c (nI o))) 12 (upd (B 12) nd ((B 1) p))) 13 (upd (B 13) nd ((B 20) (c * 6 + o)))) 14 (upd (B 14) nd ((B 21) (c * 6 + o)))) 15 (upd (B 15) nd ((B 17) c))) 17 (upd (B 17) c ((G 14)))))) : wpY_step post (uv_Y G B) := by
  have i1 : vp_in (nI c) 12 := vp_in_nI hH.2.1 (by omega)
  have i2 : (nI c).toNatClampNeg = c := nI_clamp (by have := hH.2.1; omega)
  have i3 : vp_in (nI p) 96 := vp_in_nI (by have := hH.2.2.2.1; have := hH.2.2.2.2.1; omega) (by omega)
  have i4 : (nI p).toNatClampNeg = p := nI_clamp (by have := hH.2.2.2.1; have := hH.2.2.2.2.1; omega)
  unfold wpY_step uv_Y
  refine nm_r (e' := nI c) (uv_p1 hH.1) ⟨i1, nm_r (e' := nI p) (by rw [i2]; exact hH.2.2.2.2.2) <| br_t (by rw [hH.2.2.1]; exact nI_lt hH.2.2.2.2.1 (by have := hH.2.2.2.1; omega)) ⟨i1, nm_r (e' := upd (B 16) c (nI (p + 1))) (by rw [i2, nI_1]) ⟨i3, nm_r (e' := (B 1) p) (by rw [i4]) ⟨i3, nm_r (e' := 5) (by rw [i4]; exact hc) <| br_f (by decide) <| br_f (by decide) <| br_f uv_n_5_0 <| br_f uv_n_5_1 <| br_f uv_n_5_2 <| br_f uv_n_5_3 <| br_f uv_n_5_4 <| br_t rfl ?_⟩⟩⟩⟩
  refine yw_pop (G := G) (B := (uv_st B 16 (upd (B 16) c (nI (p + 1))))) (o := o) hH.1 hH.2.1 ho ho6 (fun G2 B2 eG2 eB2 => ?_)
  subst eG2 eB2
  rcases Nat.eq_zero_or_pos fu with z | z
  · rw [z] at hf
    exact yw_spend0 (G := (uv_st (uv_st G 17 ((B 20) (c * 6 + o))) 18 ((B 21) (c * 6 + o)))) (B := (uv_st (uv_st B 16 (upd (B 16) c (nI (p + 1)))) 18 (upd (B 18) c (nI o)))) hf (br_t rfl (h8 z))
  · obtain ⟨f, rfl⟩ : ∃ f, fu = f + 1 := ⟨fu - 1, by omega⟩
    refine yw_spend (G := (uv_st (uv_st G 17 ((B 20) (c * 6 + o))) 18 ((B 21) (c * 6 + o)))) (B := (uv_st (uv_st B 16 (upd (B 16) c (nI (p + 1)))) 18 (upd (B 18) c (nI o)))) hf (by omega) (br_f (by decide) ?_)
    exact yw_addVar (G := (uv_st (uv_st (uv_st G 17 ((B 20) (c * 6 + o))) 18 ((B 21) (c * 6 + o))) 12 (nI f))) (B := (uv_st (uv_st B 16 (upd (B 16) c (nI (p + 1)))) 18 (upd (B 18) c (nI o)))) (nd := nd) hnd (by omega) hH.2.1 (h0 f rfl)
theorem yp_6 {E : Nat → Int32} {v : Nat} {s : ss_T} (hH : yp_H G B n p c) (hc : (B 0) p = 6) (ho : (B 18) c = nI (o + 1)) (ho6 : o < 6) (hE : ev_E E nd (B 15) (B 12) s) (hnd : nd ≤ 160) (hV : ss_V s ≤ 88) (he : (B 17) c = E (ss_V s)) (hv : E (ss_l s ((B 1) p)) = nI v) (hv2 : v < nd)
    (h : post (uv_Y (uv_st (uv_st G 17 ((B 20) (c * 6 + o))) 18 ((B 21) (c * 6 + o))) (uv_st (uv_st (uv_st (uv_st B 16 (upd (B 16) c (nI (p + 1)))) 18 (upd (B 18) c (nI o))) 13 (upd (B 13) v ((B 20) (c * 6 + o)))) 14 (upd (B 14) v ((B 21) (c * 6 + o)))))) : wpY_step post (uv_Y G B) := by
  have i1 : vp_in (nI c) 12 := vp_in_nI hH.2.1 (by omega)
  have i2 : (nI c).toNatClampNeg = c := nI_clamp (by have := hH.2.1; omega)
  have i3 : vp_in (nI p) 96 := vp_in_nI (by have := hH.2.2.2.1; have := hH.2.2.2.2.1; omega) (by omega)
  have i4 : (nI p).toNatClampNeg = p := nI_clamp (by have := hH.2.2.2.1; have := hH.2.2.2.2.1; omega)
  unfold wpY_step uv_Y
  refine nm_r (e' := nI c) (uv_p1 hH.1) ⟨i1, nm_r (e' := nI p) (by rw [i2]; exact hH.2.2.2.2.2) <| br_t (by rw [hH.2.2.1]; exact nI_lt hH.2.2.2.2.1 (by have := hH.2.2.2.1; omega)) ⟨i1, nm_r (e' := upd (B 16) c (nI (p + 1))) (by rw [i2, nI_1]) ⟨i3, nm_r (e' := (B 1) p) (by rw [i4]) ⟨i3, nm_r (e' := 6) (by rw [i4]; exact hc) <| br_f (by decide) <| br_f (by decide) <| br_f uv_n_6_0 <| br_f uv_n_6_1 <| br_f uv_n_6_2 <| br_f uv_n_6_3 <| br_f uv_n_6_4 <| br_f uv_n_6_5 <| br_t rfl ?_⟩⟩⟩⟩
  refine yw_pop (G := G) (B := (uv_st B 16 (upd (B 16) c (nI (p + 1))))) (o := o) hH.1 hH.2.1 ho ho6 (fun G2 B2 eG2 eB2 => ?_)
  subst eG2 eB2
  have j1 : vp_in (nI v) 160 := vp_in_nI (by omega) (by omega)
  have j2 : (nI v).toNatClampNeg = v := nI_clamp (by omega)
  refine ⟨i1, ?_⟩
  have key : wpY_lookup (fun r_607 => (r_607 < 0 → post (uv_Y (uv_st (uv_st G 17 ((B 20) (c * 6 + o))) 18 ((B 21) (c * 6 + o))) (uv_st (uv_st B 16 (upd (B 16) c (nI (p + 1)))) 18 (upd (B 18) c (nI o))))) ∧ (¬ r_607 < 0 → (vp_in r_607 160 ∧ ∀ a, a = upd (B 13) r_607.toNatClampNeg ((B 20) (c * 6 + o)) → (vp_in r_607 160 ∧ ∀ b, b = upd (B 14) r_607.toNatClampNeg ((B 21) (c * 6 + o)) → post (uv_Y (uv_st (uv_st G 17 ((B 20) (c * 6 + o))) 18 ((B 21) (c * 6 + o))) (uv_st (uv_st (uv_st (uv_st B 16 (upd (B 16) c (nI (p + 1)))) 18 (upd (B 18) c (nI o))) 13 (a)) 14 (b)))))))
      (uv_Y (uv_st (uv_st G 17 ((B 20) (c * 6 + o))) 18 ((B 21) (c * 6 + o))) (uv_st (uv_st B 16 (upd (B 16) c (nI (p + 1)))) 18 (upd (B 18) c (nI o)))) (E (ss_V s)) ((B 1) p) := by
    refine yw_lookup (G := (uv_st (uv_st G 17 ((B 20) (c * 6 + o))) 18 ((B 21) (c * 6 + o)))) (B := (uv_st (uv_st B 16 (upd (B 16) c (nI (p + 1)))) 18 (upd (B 18) c (nI o)))) hE hnd hV (Nat.le_refl _) ?_
    have hv' : E (ss_ls (ss_N s) ((B 1) p) (ss_V s)) = nI v := hv
    rw [hv']
    exact br_f (nI_pos (by omega)) ⟨j1, nm_r (e' := upd (B 13) v ((B 20) (c * 6 + o))) (by rw [j2]) ⟨j1, nm_r (e' := upd (B 14) v ((B 21) (c * 6 + o))) (by rw [j2]) h⟩⟩
  rw [← he] at key
  rw [i2]
  exact key
end
end
section
/-! the reference's steps: acts, blocks, ends -/
section
variable {G : Nat → Int32} {B : Nat → Nat → Int32} {n p c o fu nd ou : Nat} {post : SY → Prop} {x : Int32}
/-- an act: the operand popped, then by what it is -/
theorem yp_7 (hH : yp_H G B n p c) (hc : (B 0) p = 7) (ho : (B 18) c = nI (o + 1)) (ho6 : o < 6) {G2 : Nat → Int32} {B2 : Nat → Nat → Int32} (eG2 : G2 = (uv_st (uv_st G 17 ((B 20) (c * 6 + o))) 18 ((B 21) (c * 6 + o)))) (eB2 : B2 = (uv_st (uv_st B 16 (upd (B 16) c (nI (p + 1)))) 18 (upd (B 18) c (nI o))))
    (h : ∀ z0 : Int32, (z0 = 0 ↔ ((B 20) (c * 6 + o) ≠ 1 ∧ (B 21) (c * 6 + o) = 0)) → wY_doAct_24 post (nI c) ((B 1) p) z0 (G2 0) (G2 1) (G2 2) (G2 3) (G2 4) (G2 5) (G2 6) (G2 7) (G2 8) (G2 9) (G2 10) (G2 11) (G2 12) (G2 13) (G2 14) (G2 15) (G2 16) (G2 17) (G2 18) (B2 0) (B2 1) (B2 2) (B2 3) (B2 4) (B2 5) (B2 6) (B2 7) (B2 8) (B2 9) (B2 10) (B2 11) (B2 12) (B2 13) (B2 14) (B2 15) (B2 16) (B2 17) (B2 18) (B2 19) (B2 20) (B2 21) (B2 22) (B2 23)) : wpY_step post (uv_Y G B) := by
  have i1 : vp_in (nI c) 12 := vp_in_nI hH.2.1 (by omega)
  have i2 : (nI c).toNatClampNeg = c := nI_clamp (by have := hH.2.1; omega)
  have i3 : vp_in (nI p) 96 := vp_in_nI (by have := hH.2.2.2.1; have := hH.2.2.2.2.1; omega) (by omega)
  have i4 : (nI p).toNatClampNeg = p := nI_clamp (by have := hH.2.2.2.1; have := hH.2.2.2.2.1; omega)
  unfold wpY_step uv_Y
  refine nm_r (e' := nI c) (uv_p1 hH.1) ⟨i1, nm_r (e' := nI p) (by rw [i2]; exact hH.2.2.2.2.2) <| br_t (by rw [hH.2.2.1]; exact nI_lt hH.2.2.2.2.1 (by have := hH.2.2.2.1; omega)) ⟨i1, nm_r (e' := upd (B 16) c (nI (p + 1))) (by rw [i2, nI_1]) ⟨i3, nm_r (e' := (B 1) p) (by rw [i4]) ⟨i3, nm_r (e' := 7) (by rw [i4]; exact hc) <| br_f (by decide) <| br_f (by decide) <| br_f uv_n_7_0 <| br_f uv_n_7_1 <| br_f uv_n_7_2 <| br_f uv_n_7_3 <| br_f uv_n_7_4 <| br_f uv_n_7_5 <| br_f uv_n_7_6 <| br_t rfl ?_⟩⟩⟩⟩
  unfold wpY_doAct
  refine yw_pop (G := G) (B := (uv_st B 16 (upd (B 16) c (nI (p + 1))))) (o := o) hH.1 hH.2.1 ho ho6 (fun G3 B3 eG3 eB3 => ?_)
  have q1 : G3 = G2 := eG3.trans eG2.symm
  have q2 : B3 = B2 := eB3.trans eB2.symm
  subst q1 q2
  have g3 : (G3 17) = (B 20) (c * 6 + o) := by rw [eG3]; rfl
  have g4 : (G3 18) = (B 21) (c * 6 + o) := by rw [eG3]; rfl
  rw [← g3, ← g4] at h
  show ((G3 17) = 1 → wY_doAct_19 post (nI c) ((B 1) p) (G3 0) (G3 1) (G3 2) (G3 3) (G3 4) (G3 5) (G3 6) (G3 7) (G3 8) (G3 9) (G3 10) (G3 11) (G3 12) (G3 13) (G3 14) (G3 15) (G3 16) (G3 17) (G3 18) (B3 0) (B3 1) (B3 2) (B3 3) (B3 4) (B3 5) (B3 6) (B3 7) (B3 8) (B3 9) (B3 10) (B3 11) (B3 12) (B3 13) (B3 14) (B3 15) (B3 16) (B3 17) (B3 18) (B3 19) (B3 20) (B3 21) (B3 22) (B3 23)) ∧ (¬ (G3 17) = 1 → (((G3 18) = 0 → wY_doAct_24 post (nI c) ((B 1) p) 0 (G3 0) (G3 1) (G3 2) (G3 3) (G3 4) (G3 5) (G3 6) (G3 7) (G3 8) (G3 9) (G3 10) (G3 11) (G3 12) (G3 13) (G3 14) (G3 15) (G3 16) (G3 17) (G3 18) (B3 0) (B3 1) (B3 2) (B3 3) (B3 4) (B3 5) (B3 6) (B3 7) (B3 8) (B3 9) (B3 10) (B3 11) (B3 12) (B3 13) (B3 14) (B3 15) (B3 16) (B3 17) (B3 18) (B3 19) (B3 20) (B3 21) (B3 22) (B3 23)) ∧ (¬ (G3 18) = 0 → wY_doAct_19 post (nI c) ((B 1) p) (G3 0) (G3 1) (G3 2) (G3 3) (G3 4) (G3 5) (G3 6) (G3 7) (G3 8) (G3 9) (G3 10) (G3 11) (G3 12) (G3 13) (G3 14) (G3 15) (G3 16) (G3 17) (G3 18) (B3 0) (B3 1) (B3 2) (B3 3) (B3 4) (B3 5) (B3 6) (B3 7) (B3 8) (B3 9) (B3 10) (B3 11) (B3 12) (B3 13) (B3 14) (B3 15) (B3 16) (B3 17) (B3 18) (B3 19) (B3 20) (B3 21) (B3 22) (B3 23))))
  refine br_c (fun e1 => ?_) (fun e1 => br_c (fun e2 => ?_) (fun e2 => ?_))
  · exact h 1 ⟨fun z => absurd z (by decide), fun z => absurd e1 z.1⟩
  · exact h 0 ⟨fun _ => ⟨e1, e2⟩, fun _ => rfl⟩
  · exact h 1 ⟨fun z => absurd z (by decide), fun z => absurd z.2 e2⟩
theorem yp_drop {z0 : Int32} (hx : x ≠ 1) (hx2 : x ≠ 2) (hx3 : x ≠ 3) (hx4 : x ≠ 4) (h : post (uv_Y G B)) : wY_doAct_24 post (nI c) x z0 (G 0) (G 1) (G 2) (G 3) (G 4) (G 5) (G 6) (G 7) (G 8) (G 9) (G 10) (G 11) (G 12) (G 13) (G 14) (G 15) (G 16) (G 17) (G 18) (B 0) (B 1) (B 2) (B 3) (B 4) (B 5) (B 6) (B 7) (B 8) (B 9) (B 10) (B 11) (B 12) (B 13) (B 14) (B 15) (B 16) (B 17) (B 18) (B 19) (B 20) (B 21) (B 22) (B 23) := by
  unfold wY_doAct_24 wY_doAct_82 wY_doAct_99
  exact br_f hx <| br_f hx2 <| br_f hx3 <| br_f hx4 h
theorem yp_emit {z0 : Int32} (hou : (G 9) = nI ou) (hou2 : ou ≤ 24) (h10 : ou = 24 → post (uv_Y (uv_st G 16 (10)) B)) (h0 : ou < 24 → post (uv_Y (uv_st G 9 (nI (ou + 1))) (uv_st (uv_st B 8 (upd (B 8) ou ((G 17)))) 9 (upd (B 9) ou ((G 18)))))) : wY_doAct_24 post (nI c) 1 z0 (G 0) (G 1) (G 2) (G 3) (G 4) (G 5) (G 6) (G 7) (G 8) (G 9) (G 10) (G 11) (G 12) (G 13) (G 14) (G 15) (G 16) (G 17) (G 18) (B 0) (B 1) (B 2) (B 3) (B 4) (B 5) (B 6) (B 7) (B 8) (B 9) (B 10) (B 11) (B 12) (B 13) (B 14) (B 15) (B 16) (B 17) (B 18) (B 19) (B 20) (B 21) (B 22) (B 23) := by
  unfold wY_doAct_24
  refine br_t rfl ?_
  refine pk_lt ou 24 (fun hlt => ?_) (fun hge => h10 (by omega)) hou rfl (by omega) (by omega)
  have j1 : vp_in ((G 9)) 24 := by rw [hou]; exact vp_in_nI hlt (by omega)
  have j2 : ((G 9)).toNatClampNeg = ou := by rw [hou]; exact nI_clamp (by omega)
  refine ⟨j1, nm_r (e' := upd (B 8) ou ((G 17))) (by rw [j2]) ⟨j1, nm_r (e' := upd (B 9) ou ((G 18))) (by rw [j2]) <| nm_r (e' := nI (ou + 1)) (by rw [hou]; exact nI_1 ou) ?_⟩⟩
  unfold wY_doAct_82 wY_doAct_99
  exact br_f (by decide) <| br_f (by decide) <| br_f (by decide) (h0 hlt)
theorem yp_ret {z0 : Int32} (h : ∀ p2 : SY → Prop, (∀ G' B', post (uv_Y G' B') → p2 (uv_Y G' B')) → wpY_finish p2 (uv_Y G B) ((G 17)) ((G 18))) : wY_doAct_24 post (nI c) 2 z0 (G 0) (G 1) (G 2) (G 3) (G 4) (G 5) (G 6) (G 7) (G 8) (G 9) (G 10) (G 11) (G 12) (G 13) (G 14) (G 15) (G 16) (G 17) (G 18) (B 0) (B 1) (B 2) (B 3) (B 4) (B 5) (B 6) (B 7) (B 8) (B 9) (B 10) (B 11) (B 12) (B 13) (B 14) (B 15) (B 16) (B 17) (B 18) (B 19) (B 20) (B 21) (B 22) (B 23) := by
  unfold wY_doAct_24
  refine br_f (by decide) ?_
  unfold wY_doAct_82
  refine br_t rfl ?_
  refine h _ (fun G' B' hp => ?_)
  show wY_doAct_99 post (nI c) 2 z0 (G' 0) (G' 1) (G' 2) (G' 3) (G' 4) (G' 5) (G' 6) (G' 7) (G' 8) (G' 9) (G' 10) (G' 11) (G' 12) (G' 13) (G' 14) (G' 15) (G' 16) (G' 17) (G' 18) (B' 0) (B' 1) (B' 2) (B' 3) (B' 4) (B' 5) (B' 6) (B' 7) (B' 8) (B' 9) (B' 10) (B' 11) (B' 12) (B' 13) (B' 14) (B' 15) (B' 16) (B' 17) (B' 18) (B' 19) (B' 20) (B' 21) (B' 22) (B' 23)
  unfold wY_doAct_99
  exact br_f (by decide) <| br_f (by decide) hp
theorem yp_stay (hx : x = 3 ∨ x = 4) (h : post (uv_Y G B)) : wY_doAct_24 post (nI c) x 0 (G 0) (G 1) (G 2) (G 3) (G 4) (G 5) (G 6) (G 7) (G 8) (G 9) (G 10) (G 11) (G 12) (G 13) (G 14) (G 15) (G 16) (G 17) (G 18) (B 0) (B 1) (B 2) (B 3) (B 4) (B 5) (B 6) (B 7) (B 8) (B 9) (B 10) (B 11) (B 12) (B 13) (B 14) (B 15) (B 16) (B 17) (B 18) (B 19) (B 20) (B 21) (B 22) (B 23) := by
  unfold wY_doAct_24 wY_doAct_82 wY_doAct_99 wY_doAct_109
  rcases hx with z | z
  · subst z
    exact br_f (by decide) <| br_f (by decide) <| br_t rfl <| br_t rfl h
  · subst z
    exact br_f (by decide) <| br_f (by decide) <| br_f (by decide) <| br_t rfl <| br_t rfl h
/-- the blocks are left up to and with loop lx -/
theorem yp_jump_lp {s : ss_T} {E : Nat → Int32} {lx : Nat} {B0 : Nat → Nat → Int32} (hcb : c < 12) (hO : ss_O s ≤ 10) (hf : ss_f s < lx) (hlO : lx ≤ ss_O s) (hW : ∀ i, ss_f s < i → i ≤ ss_O s → ss_W s i < 96) (hl3 : ss_K s lx = 3) (hno : ∀ i, lx < i → i ≤ ss_O s → ss_K s i ≠ 3)
    (hb : ∀ i, ss_f s < i → i ≤ ss_O s → (B0 22) (c * 10 + (i - ss_f s - 1)) = nI (ss_W s i) ∧ (B0 23) (c * 10 + (i - ss_f s - 1)) = E (ss_C s i))
    (ha : ∀ i, ss_f s < i → i ≤ ss_O s → ((B0 1) (ss_W s i) = 3 ↔ ss_K s i = 3))
    (h : ∀ (B2 : Nat → Nat → Int32), (∀ j, j ≠ 17 → j ≠ 19 → B2 j = B0 j) → (B2 17) = upd (B0 17) c (E (ss_C s lx)) → (B2 19) = upd (B0 19) c (nI (lx - ss_f s - 1)) → wY_doAct_173 post (nI c) x (nI (ss_W s lx)) (G 0) (G 1) (G 2) (G 3) (G 4) (G 5) (G 6) (G 7) (G 8) (G 9) (G 10) (G 11) (G 12) (G 13) (G 14) (G 15) (G 16) (G 17) (G 18) (B2 0) (B2 1) (B2 2) (B2 3) (B2 4) (B2 5) (B2 6) (B2 7) (B2 8) (B2 9) (B2 10) (B2 11) (B2 12) (B2 13) (B2 14) (B2 15) (B2 16) (B2 17) (B2 18) (B2 19) (B2 20) (B2 21) (B2 22) (B2 23)) :
    ∀ (d i fuel : Nat) (B1 : Nat → Nat → Int32), lx + d = i → i ≤ ss_O s → d + 1 < fuel → (∀ j, j ≠ 17 → j ≠ 19 → B1 j = B0 j) → (∀ y, upd ((B1 17)) c y = upd (B0 17) c y) → (∀ y, upd ((B1 19)) c y = upd (B0 19) c y) → (B1 19) c = nI (i - ss_f s) →
      wY_doAct_119 post (nI c) x fuel (-1) (nI (ss_O s - i)) (G 0) (G 1) (G 2) (G 3) (G 4) (G 5) (G 6) (G 7) (G 8) (G 9) (G 10) (G 11) (G 12) (G 13) (G 14) (G 15) (G 16) (G 17) (G 18) (B1 0) (B1 1) (B1 2) (B1 3) (B1 4) (B1 5) (B1 6) (B1 7) (B1 8) (B1 9) (B1 10) (B1 11) (B1 12) (B1 13) (B1 14) (B1 15) (B1 16) (B1 17) (B1 18) (B1 19) (B1 20) (B1 21) (B1 22) (B1 23) := by
  have i1 : vp_in (nI c) 12 := vp_in_nI hcb (by omega)
  have i2 : (nI c).toNatClampNeg = c := nI_clamp (by omega)
  intro d
  induction d with
  | zero =>
    intro i fuel B1 hi hiO hfu e0 e1 e2 e3
    obtain ⟨m, rfl⟩ : ∃ m, fuel = m + 1 + 1 := ⟨fuel - 2, by omega⟩
    have ei : i = lx := by omega
    subst ei
    obtain ⟨q, hq⟩ : ∃ q, i - ss_f s = q + 1 := ⟨i - ss_f s - 1, by omega⟩
    obtain ⟨w1, w2⟩ := hb i hf hiO
    have hw := hW i hf hiO
    have eq1 : i - ss_f s - 1 = q := by omega
    rw [eq1] at w1 w2
    have j1 : vp_in (nI (ss_W s i)) 96 := vp_in_nI hw (by omega)
    have j2 : (nI (ss_W s i)).toNatClampNeg = ss_W s i := nI_clamp (by omega)
    have a3 : (B1 1) (ss_W s i) = 3 := by rw [e0 1 (by omega) (by omega)]; exact (ha i hf hiO).mpr hl3
    have bw : (B1 22) (c * 10 + q) = nI (ss_W s i) := by rw [e0 22 (by omega) (by omega)]; exact w1
    have be : (B1 23) (c * 10 + q) = E (ss_C s i) := by rw [e0 23 (by omega) (by omega)]; exact w2
    rw [wY_doAct_119]
    refine br_f (nI_ge (b := 10) (by omega) (by omega)) <| br_f (by decide) ⟨i1, ?_⟩
    rw [i2]
    refine br_f (by rw [e3]; exact nI_nle (by omega) (by omega)) ?_
    rw [hq] at e3
    refine yw_leave (G := G) (B := B1) (j := q) hcb e3 (by omega) ?_
    rw [bw]
    refine br_f (nI_pos (by omega)) ⟨j1, ?_⟩
    rw [j2]
    refine br_t a3 (nm_r (nI_1 _) ?_)
    have H := h (uv_st (uv_st B1 17 (upd (B1 17) c ((B1 23) (c * 10 + q)))) 19 (upd (B1 19) c (nI q))) (fun j n1 n2 => by rw [uv_sn n2, uv_sn n1]; exact e0 j n1 n2) (by show upd ((B1 17)) c ((B1 23) (c * 10 + q)) = _; rw [be]; exact e1 _) (by show upd ((B1 19)) c (nI q) = _; rw [eq1]; exact e2 _)
    rw [wY_doAct_119]
    exact br_c (fun _ => H) (fun _ => br_t (nI_pos' (by omega)) H)
  | succ d ih =>
    intro i fuel B1 hi hiO hfu e0 e1 e2 e3
    obtain ⟨m, rfl⟩ : ∃ m, fuel = m + 1 := ⟨fuel - 1, by omega⟩
    obtain ⟨q, hq⟩ : ∃ q, i - ss_f s = q + 1 := ⟨i - ss_f s - 1, by omega⟩
    obtain ⟨w1, w2⟩ := hb i (by omega) hiO
    have hw := hW i (by omega) hiO
    have eq1 : i - ss_f s - 1 = q := by omega
    rw [eq1] at w1 w2
    have j1 : vp_in (nI (ss_W s i)) 96 := vp_in_nI hw (by omega)
    have j2 : (nI (ss_W s i)).toNatClampNeg = ss_W s i := nI_clamp (by omega)
    have a3 : ¬ (B1 1) (ss_W s i) = 3 := by rw [e0 1 (by omega) (by omega), ha i (by omega) hiO]; exact hno i (by omega) hiO
    have bw : (B1 22) (c * 10 + q) = nI (ss_W s i) := by rw [e0 22 (by omega) (by omega)]; exact w1
    have K := ih (i - 1) m (uv_st (uv_st B1 17 (upd (B1 17) c ((B1 23) (c * 10 + q)))) 19 (upd (B1 19) c (nI q))) (by omega) (by omega) (by omega) (fun j n1 n2 => by rw [uv_sn n2, uv_sn n1]; exact e0 j n1 n2)
      (fun y => by show upd (upd ((B1 17)) c ((B1 23) (c * 10 + q))) c y = _; rw [uv_uu]; exact e1 y) (fun y => by show upd (upd ((B1 19)) c (nI q)) c y = _; rw [uv_uu]; exact e2 y)
      (by show upd ((B1 19)) c (nI q) c = _; rw [pk_us]; exact congrArg nI (by omega))
    have ex5 : nI (ss_O s - i) + 1 = nI (ss_O s - (i - 1)) := by
      rw [nI_1]; exact congrArg nI (by omega)
    rw [wY_doAct_119]
    refine br_f (nI_ge (b := 10) (by omega) (by omega)) <| br_f (by decide) ⟨i1, ?_⟩
    rw [i2]
    refine br_f (by rw [e3]; exact nI_nle (by omega) (by omega)) ?_
    rw [hq] at e3
    refine yw_leave (G := G) (B := B1) (j := q) hcb e3 (by omega) ?_
    rw [bw]
    refine br_f (nI_pos (by omega)) ⟨j1, ?_⟩
    rw [j2]
    exact br_f a3 (nm_r ex5 K)
theorem yp_jump {s : ss_T} {E : Nat → Int32} {lx : Nat} {z0 : Int32} (hz : z0 ≠ 0) (hx : x = 3 ∨ x = 4) (hcb : c < 12) (hO : ss_O s ≤ 10) (hf : ss_f s < lx) (hlO : lx ≤ ss_O s) (hW : ∀ i, ss_f s < i → i ≤ ss_O s → ss_W s i < 96) (hl3 : ss_K s lx = 3) (hno : ∀ i, lx < i → i ≤ ss_O s → ss_K s i ≠ 3)
    (hbl : (B 19) c = nI (ss_O s - ss_f s)) (hb : ∀ i, ss_f s < i → i ≤ ss_O s → (B 22) (c * 10 + (i - ss_f s - 1)) = nI (ss_W s i) ∧ (B 23) (c * 10 + (i - ss_f s - 1)) = E (ss_C s i))
    (ha : ∀ i, ss_f s < i → i ≤ ss_O s → ((B 1) (ss_W s i) = 3 ↔ ss_K s i = 3))
    (h : ∀ (B2 : Nat → Nat → Int32), (∀ j, j ≠ 17 → j ≠ 19 → B2 j = B j) → (B2 17) = upd (B 17) c (E (ss_C s lx)) → (B2 19) = upd (B 19) c (nI (lx - ss_f s - 1)) → wY_doAct_173 post (nI c) x (nI (ss_W s lx)) (G 0) (G 1) (G 2) (G 3) (G 4) (G 5) (G 6) (G 7) (G 8) (G 9) (G 10) (G 11) (G 12) (G 13) (G 14) (G 15) (G 16) (G 17) (G 18) (B2 0) (B2 1) (B2 2) (B2 3) (B2 4) (B2 5) (B2 6) (B2 7) (B2 8) (B2 9) (B2 10) (B2 11) (B2 12) (B2 13) (B2 14) (B2 15) (B2 16) (B2 17) (B2 18) (B2 19) (B2 20) (B2 21) (B2 22) (B2 23)) : wY_doAct_24 post (nI c) x z0 (G 0) (G 1) (G 2) (G 3) (G 4) (G 5) (G 6) (G 7) (G 8) (G 9) (G 10) (G 11) (G 12) (G 13) (G 14) (G 15) (G 16) (G 17) (G 18) (B 0) (B 1) (B 2) (B 3) (B 4) (B 5) (B 6) (B 7) (B 8) (B 9) (B 10) (B 11) (B 12) (B 13) (B 14) (B 15) (B 16) (B 17) (B 18) (B 19) (B 20) (B 21) (B 22) (B 23) := by
  have K := yp_jump_lp (G := G) (post := post) (x := x) (B0 := B) hcb hO hf hlO hW hl3 hno hb ha h (ss_O s - lx) (ss_O s) (ss_O s - lx + 2) B (by omega) (Nat.le_refl _) (by omega) (fun _ _ _ => rfl) (fun _ => rfl) (fun _ => rfl) hbl
  rw [Nat.sub_self] at K
  unfold wY_doAct_24 wY_doAct_82 wY_doAct_99 wY_doAct_109
  rcases hx with z | z
  · subst z
    exact br_f (by decide) <| br_f (by decide) <| br_t rfl <| br_f hz ⟨_, K⟩
  · subst z
    exact br_f (by decide) <| br_f (by decide) <| br_f (by decide) <| br_t rfl <| br_f hz ⟨_, K⟩
end
end
section
/-! the reference's steps: blocks -/
section
variable {G : Nat → Int32} {B : Nat → Nat → Int32} {n p c o fu j q w : Nat} {post : SY → Prop} {S : Nat → ss_T}
theorem yp_lv (hcb : c < 12) (hS : ss_S (B 0) (B 1) n S) (hn : (G 4) = nI n) (h96 : n ≤ 96) (hq : q < n) (hcl : ss_cl (B 0) S w q) (h : post (uv_Y G (uv_st B 16 (upd (B 16) c (nI (q + 1)))))) : wY_doAct_173 post (nI c) 3 (nI w) (G 0) (G 1) (G 2) (G 3) (G 4) (G 5) (G 6) (G 7) (G 8) (G 9) (G 10) (G 11) (G 12) (G 13) (G 14) (G 15) (G 16) (G 17) (G 18) (B 0) (B 1) (B 2) (B 3) (B 4) (B 5) (B 6) (B 7) (B 8) (B 9) (B 10) (B 11) (B 12) (B 13) (B 14) (B 15) (B 16) (B 17) (B 18) (B 19) (B 20) (B 21) (B 22) (B 23) := by
  have hw := ss_on_lt hS (p := q) (by omega) hcl.2
  have i1 : vp_in (nI c) 12 := vp_in_nI hcb (by omega)
  have i2 : (nI c).toNatClampNeg = c := nI_clamp (by omega)
  unfold wY_doAct_173
  refine br_t (nI_pos' (by omega)) <| br_t rfl ?_
  refine yw_pe (a := (B 1)) (G := G) (B := B) hS hn h96 hq hcl ⟨i1, nm_r (e' := upd (B 16) c (nI (q + 1))) (by rw [i2, nI_1]) h⟩
theorem yp_ag (hcb : c < 12) (hw : w < 96) (hf : (G 12) = nI fu) (hfu : fu < 1000) (hb : (B 19) c = nI j) (hj : j < 10) (h8 : fu = 0 → post (uv_Y (uv_st G 16 (8)) B))
    (h0 : ∀ f, fu = f + 1 → post (uv_Y (uv_st G 12 (nI f)) (uv_st (uv_st (uv_st (uv_st B 22 (upd (B 22) (c * 10 + j) (nI w))) 23 (upd (B 23) (c * 10 + j) ((B 17) c))) 19 (upd (B 19) c (nI (j + 1)))) 16 (upd (B 16) c (nI (w + 1)))))) : wY_doAct_173 post (nI c) 4 (nI w) (G 0) (G 1) (G 2) (G 3) (G 4) (G 5) (G 6) (G 7) (G 8) (G 9) (G 10) (G 11) (G 12) (G 13) (G 14) (G 15) (G 16) (G 17) (G 18) (B 0) (B 1) (B 2) (B 3) (B 4) (B 5) (B 6) (B 7) (B 8) (B 9) (B 10) (B 11) (B 12) (B 13) (B 14) (B 15) (B 16) (B 17) (B 18) (B 19) (B 20) (B 21) (B 22) (B 23) := by
  unfold wY_doAct_173
  refine br_t (nI_pos' (by omega)) <| br_f (by decide) ?_
  rcases Nat.eq_zero_or_pos fu with z | z
  · rw [z] at hf
    exact yw_pass0 (G := G) (B := B) hf (h8 z)
  · obtain ⟨f, rfl⟩ : ∃ f, fu = f + 1 := ⟨fu - 1, by omega⟩
    exact yw_pass (G := G) (B := B) hf (by omega) hcb hb hj (h0 f rfl)
theorem yp_8a (hH : yp_H G B n p c) (hc : (B 0) p = 8) (ha : (B 1) p = 1) (hb : (B 19) c = nI j) (hj : j < 10)
    (h : post (uv_Y G (uv_st (uv_st (uv_st (uv_st B 16 (upd (B 16) c (nI (p + 1)))) 22 (upd (B 22) (c * 10 + j) (nI p))) 23 (upd (B 23) (c * 10 + j) ((B 17) c))) 19 (upd (B 19) c (nI (j + 1)))))) : wpY_step post (uv_Y G B) := by
  have i1 : vp_in (nI c) 12 := vp_in_nI hH.2.1 (by omega)
  have i2 : (nI c).toNatClampNeg = c := nI_clamp (by have := hH.2.1; omega)
  have i3 : vp_in (nI p) 96 := vp_in_nI (by have := hH.2.2.2.1; have := hH.2.2.2.2.1; omega) (by omega)
  have i4 : (nI p).toNatClampNeg = p := nI_clamp (by have := hH.2.2.2.1; have := hH.2.2.2.2.1; omega)
  unfold wpY_step uv_Y
  refine nm_r (e' := nI c) (uv_p1 hH.1) ⟨i1, nm_r (e' := nI p) (by rw [i2]; exact hH.2.2.2.2.2) <| br_t (by rw [hH.2.2.1]; exact nI_lt hH.2.2.2.2.1 (by have := hH.2.2.2.1; omega)) ⟨i1, nm_r (e' := upd (B 16) c (nI (p + 1))) (by rw [i2, nI_1]) ⟨i3, nm_r (e' := (B 1) p) (by rw [i4]) ⟨i3, nm_r (e' := 8) (by rw [i4]; exact hc) <| br_f (by decide) <| br_f (by decide) <| br_f uv_n_8_0 <| br_f uv_n_8_1 <| br_f uv_n_8_2 <| br_f uv_n_8_3 <| br_f uv_n_8_4 <| br_f uv_n_8_5 <| br_f uv_n_8_6 <| br_f uv_n_8_7 <| br_t rfl ?_⟩⟩⟩⟩
  rw [ha]
  unfold wpY_doBlock
  refine br_t rfl ?_
  refine yw_enterB (G := G) (B := (uv_st B 16 (upd (B 16) c (nI (p + 1))))) hH.2.1 hb hj ?_
  exact br_f (by decide) <| br_f (by decide) h
theorem yp_8c (hH : yp_H G B n p c) (hc : (B 0) p = 8) (ha : (B 1) p = 3) (hb : (B 19) c = nI j) (hj : j < 10) (hf : (G 12) = nI fu) (hfu : fu < 1000)
    (h8 : fu = 0 → post (uv_Y (uv_st G 16 (8)) (uv_st B 16 (upd (B 16) c (nI (p + 1))))))
    (h0 : ∀ f, fu = f + 1 → post (uv_Y (uv_st G 12 (nI f)) (uv_st (uv_st (uv_st (uv_st B 16 (upd (upd (B 16) c (nI (p + 1))) c (nI (p + 1)))) 22 (upd (B 22) (c * 10 + j) (nI p))) 23 (upd (B 23) (c * 10 + j) ((B 17) c))) 19 (upd (B 19) c (nI (j + 1)))))) : wpY_step post (uv_Y G B) := by
  have i1 : vp_in (nI c) 12 := vp_in_nI hH.2.1 (by omega)
  have i2 : (nI c).toNatClampNeg = c := nI_clamp (by have := hH.2.1; omega)
  have i3 : vp_in (nI p) 96 := vp_in_nI (by have := hH.2.2.2.1; have := hH.2.2.2.2.1; omega) (by omega)
  have i4 : (nI p).toNatClampNeg = p := nI_clamp (by have := hH.2.2.2.1; have := hH.2.2.2.2.1; omega)
  unfold wpY_step uv_Y
  refine nm_r (e' := nI c) (uv_p1 hH.1) ⟨i1, nm_r (e' := nI p) (by rw [i2]; exact hH.2.2.2.2.2) <| br_t (by rw [hH.2.2.1]; exact nI_lt hH.2.2.2.2.1 (by have := hH.2.2.2.1; omega)) ⟨i1, nm_r (e' := upd (B 16) c (nI (p + 1))) (by rw [i2, nI_1]) ⟨i3, nm_r (e' := (B 1) p) (by rw [i4]) ⟨i3, nm_r (e' := 8) (by rw [i4]; exact hc) <| br_f (by decide) <| br_f (by decide) <| br_f uv_n_8_0 <| br_f uv_n_8_1 <| br_f uv_n_8_2 <| br_f uv_n_8_3 <| br_f uv_n_8_4 <| br_f uv_n_8_5 <| br_f uv_n_8_6 <| br_f uv_n_8_7 <| br_t rfl ?_⟩⟩⟩⟩
  rw [ha]
  unfold wpY_doBlock
  refine br_f (by decide) <| br_t rfl ?_
  rcases Nat.eq_zero_or_pos fu with z | z
  · rw [z] at hf
    exact yw_pass0 (G := G) (B := (uv_st B 16 (upd (B 16) c (nI (p + 1))))) hf (br_f (by decide) (h8 z))
  · obtain ⟨f, rfl⟩ : ∃ f, fu = f + 1 := ⟨fu - 1, by omega⟩
    exact yw_pass (G := G) (B := (uv_st B 16 (upd (B 16) c (nI (p + 1))))) hf (by omega) hH.2.1 hb hj (br_f (by decide) (h0 f rfl))
theorem yp_8b (hH : yp_H G B n p c) (hc : (B 0) p = 8) (ha : (B 1) p = 2) (ho : (B 18) c = nI (o + 1)) (ho6 : o < 6) (hb : (B 19) c = nI j) (hj : j < 10) (hS : ss_S (B 0) (B 1) n S) (hq : q < n) (hcl : ss_cl (B 0) S p q)
    (ht : ((B 20) (c * 6 + o) = 1 ∨ (B 21) (c * 6 + o) ≠ 0) → post (uv_Y (uv_st (uv_st G 17 ((B 20) (c * 6 + o))) 18 ((B 21) (c * 6 + o))) (uv_st (uv_st (uv_st (uv_st (uv_st B 16 (upd (B 16) c (nI (p + 1)))) 18 (upd (B 18) c (nI o))) 22 (upd (B 22) (c * 10 + j) (nI p))) 23 (upd (B 23) (c * 10 + j) ((B 17) c))) 19 (upd (B 19) c (nI (j + 1))))))
    (he : ¬ ((B 20) (c * 6 + o) = 1 ∨ (B 21) (c * 6 + o) ≠ 0) → (B 0) q = 9 → post (uv_Y (uv_st (uv_st G 17 ((B 20) (c * 6 + o))) 18 ((B 21) (c * 6 + o))) (uv_st (uv_st (uv_st (uv_st (uv_st B 16 (upd (upd (B 16) c (nI (p + 1))) c (nI (q + 1)))) 18 (upd (B 18) c (nI o))) 22 (upd (B 22) (c * 10 + j) (nI q))) 23 (upd (B 23) (c * 10 + j) ((B 17) c))) 19 (upd (B 19) c (nI (j + 1))))))
    (hn : ¬ ((B 20) (c * 6 + o) = 1 ∨ (B 21) (c * 6 + o) ≠ 0) → (B 0) q = 10 → post (uv_Y (uv_st (uv_st G 17 ((B 20) (c * 6 + o))) 18 ((B 21) (c * 6 + o))) (uv_st (uv_st B 16 (upd (upd (B 16) c (nI (p + 1))) c (nI (q + 1)))) 18 (upd (B 18) c (nI o))))) : wpY_step post (uv_Y G B) := by
  have i1 : vp_in (nI c) 12 := vp_in_nI hH.2.1 (by omega)
  have i2 : (nI c).toNatClampNeg = c := nI_clamp (by have := hH.2.1; omega)
  have i3 : vp_in (nI p) 96 := vp_in_nI (by have := hH.2.2.2.1; have := hH.2.2.2.2.1; omega) (by omega)
  have i4 : (nI p).toNatClampNeg = p := nI_clamp (by have := hH.2.2.2.1; have := hH.2.2.2.2.1; omega)
  unfold wpY_step uv_Y
  refine nm_r (e' := nI c) (uv_p1 hH.1) ⟨i1, nm_r (e' := nI p) (by rw [i2]; exact hH.2.2.2.2.2) <| br_t (by rw [hH.2.2.1]; exact nI_lt hH.2.2.2.2.1 (by have := hH.2.2.2.1; omega)) ⟨i1, nm_r (e' := upd (B 16) c (nI (p + 1))) (by rw [i2, nI_1]) ⟨i3, nm_r (e' := (B 1) p) (by rw [i4]) ⟨i3, nm_r (e' := 8) (by rw [i4]; exact hc) <| br_f (by decide) <| br_f (by decide) <| br_f uv_n_8_0 <| br_f uv_n_8_1 <| br_f uv_n_8_2 <| br_f uv_n_8_3 <| br_f uv_n_8_4 <| br_f uv_n_8_5 <| br_f uv_n_8_6 <| br_f uv_n_8_7 <| br_t rfl ?_⟩⟩⟩⟩
  rw [ha]
  unfold wpY_doBlock
  refine br_f (by decide) <| br_f (by decide) <| br_t rfl ?_
  refine yw_pop (G := G) (B := (uv_st B 16 (upd (B 16) c (nI (p + 1))))) (o := o) hH.1 hH.2.1 ho ho6 (fun G2 B2 eG2 eB2 => ?_)
  have g1 : yp_G G G2 := fun i hi => by rw [eG2]; exact (uv_sn (by omega)).trans (uv_sn (by omega))
  have g3 : (G2 17) = (B 20) (c * 6 + o) := by rw [eG2]; rfl
  have g4 : (G2 18) = (B 21) (c * 6 + o) := by rw [eG2]; rfl
  have hb2 : (B2 19) c = nI j := by rw [eB2]; exact hb
  have yes : ((B 20) (c * 6 + o) = 1 ∨ (B 21) (c * 6 + o) ≠ 0) → wY_doBlock_46 post (nI c) (nI p) (G2 0) (G2 1) (G2 2) (G2 3) (G2 4) (G2 5) (G2 6) (G2 7) (G2 8) (G2 9) (G2 10) (G2 11) (G2 12) (G2 13) (G2 14) (G2 15) (G2 16) (G2 17) (G2 18) (B2 0) (B2 1) (B2 2) (B2 3) (B2 4) (B2 5) (B2 6) (B2 7) (B2 8) (B2 9) (B2 10) (B2 11) (B2 12) (B2 13) (B2 14) (B2 15) (B2 16) (B2 17) (B2 18) (B2 19) (B2 20) (B2 21) (B2 22) (B2 23) := by
    intro hy
    unfold wY_doBlock_46
    refine yw_enterB (G := G2) (B := B2) hH.2.1 hb2 hj ?_
    have := ht hy
    rw [eG2, eB2]; exact this
  show ((G2 17) = 1 → wY_doBlock_46 post (nI c) (nI p) (G2 0) (G2 1) (G2 2) (G2 3) (G2 4) (G2 5) (G2 6) (G2 7) (G2 8) (G2 9) (G2 10) (G2 11) (G2 12) (G2 13) (G2 14) (G2 15) (G2 16) (G2 17) (G2 18) (B2 0) (B2 1) (B2 2) (B2 3) (B2 4) (B2 5) (B2 6) (B2 7) (B2 8) (B2 9) (B2 10) (B2 11) (B2 12) (B2 13) (B2 14) (B2 15) (B2 16) (B2 17) (B2 18) (B2 19) (B2 20) (B2 21) (B2 22) (B2 23)) ∧ (¬ (G2 17) = 1 → (((G2 18) = 0 → wpY_partEnd _ (uv_Y G2 B2) (nI p)) ∧ (¬ (G2 18) = 0 → wY_doBlock_46 post (nI c) (nI p) (G2 0) (G2 1) (G2 2) (G2 3) (G2 4) (G2 5) (G2 6) (G2 7) (G2 8) (G2 9) (G2 10) (G2 11) (G2 12) (G2 13) (G2 14) (G2 15) (G2 16) (G2 17) (G2 18) (B2 0) (B2 1) (B2 2) (B2 3) (B2 4) (B2 5) (B2 6) (B2 7) (B2 8) (B2 9) (B2 10) (B2 11) (B2 12) (B2 13) (B2 14) (B2 15) (B2 16) (B2 17) (B2 18) (B2 19) (B2 20) (B2 21) (B2 22) (B2 23))))
  refine br_c (fun e1 => yes (Or.inl (g3.symm.trans e1))) (fun e1 => br_c (fun e2 => ?_) (fun e2 => yes (Or.inr (fun z => e2 (g4.trans z)))))
  have no : ¬ ((B 20) (c * 6 + o) = 1 ∨ (B 21) (c * 6 + o) ≠ 0) := by
    rintro (z | z)
    · exact e1 (g3.trans z)
    · exact z (g4.symm.trans e2)
  have ek : (B2 0) = (B 0) := by rw [eB2]; rfl
  have epc : (B2 16) = upd (B 16) c (nI (p + 1)) := by rw [eB2]; rfl
  have hS2 : ss_S ((B2 0)) ((B 1)) n S := by rw [ek]; exact hS
  have hcl2 : ss_cl ((B2 0)) S p q := by rw [ek]; exact hcl
  have hw2 : (G2 4) = nI n := (g1 4 (by omega)).trans hH.2.2.1
  have n96 := hH.2.2.2.1
  refine yw_pe (a := (B 1)) (G := G2) (B := B2) hS2 hw2 n96 hq hcl2 ?_
  have j1 : vp_in (nI q) 96 := vp_in_nI (by omega) (by omega)
  have j2 : (nI q).toNatClampNeg = q := nI_clamp (by omega)
  have e3 : upd ((B2 16)) (nI c).toNatClampNeg (nI q + 1) = upd (upd (B 16) c (nI (p + 1))) c (nI (q + 1)) := by rw [i2, epc, nI_1]
  refine ⟨i1, nm_r (e' := upd (upd (B 16) c (nI (p + 1))) c (nI (q + 1))) e3 <| br_f (by show ¬ (G2 4) ≤ nI q; rw [hw2]; exact nI_ge hq (by omega)) ⟨j1, ?_⟩⟩
  rw [j2]
  show ((B2 0) q = 9 → wpY_enterBlock _ (uv_Y G2 (uv_st B2 16 (upd (upd (B 16) c (nI (p + 1))) c (nI (q + 1))))) (nI c) (nI q)) ∧ (¬ (B2 0) q = 9 → post (uv_Y G2 (uv_st B2 16 (upd (upd (B 16) c (nI (p + 1))) c (nI (q + 1))))))
  refine br_c (fun k9 => ?_) (fun k9 => ?_)
  · rw [ek] at k9
    refine yw_enterB (G := G2) (B := (uv_st B2 16 (upd (upd (B 16) c (nI (p + 1))) c (nI (q + 1))))) hH.2.1 hb2 hj ?_
    have := he no k9
    rw [eG2, eB2]; exact this
  · rw [ek] at k9
    have := hn no (hcl.1.resolve_left k9)
    rw [eG2, eB2]; exact this
theorem yp_9 (hH : yp_H G B n p c) (hc : (B 0) p = 9) (hb : (B 19) c = nI (j + 1)) (hj : j < 10) (hS : ss_S (B 0) (B 1) n S) (hq : q < n) (hcl : ss_cl (B 0) S p q)
    (h : post (uv_Y G (uv_st (uv_st (uv_st B 17 (upd (B 17) c ((B 23) (c * 10 + j)))) 19 (upd (B 19) c (nI j))) 16 (upd (upd (B 16) c (nI (p + 1))) c (nI (q + 1)))))) : wpY_step post (uv_Y G B) := by
  have i1 : vp_in (nI c) 12 := vp_in_nI hH.2.1 (by omega)
  have i2 : (nI c).toNatClampNeg = c := nI_clamp (by have := hH.2.1; omega)
  have i3 : vp_in (nI p) 96 := vp_in_nI (by have := hH.2.2.2.1; have := hH.2.2.2.2.1; omega) (by omega)
  have i4 : (nI p).toNatClampNeg = p := nI_clamp (by have := hH.2.2.2.1; have := hH.2.2.2.2.1; omega)
  unfold wpY_step uv_Y
  refine nm_r (e' := nI c) (uv_p1 hH.1) ⟨i1, nm_r (e' := nI p) (by rw [i2]; exact hH.2.2.2.2.2) <| br_t (by rw [hH.2.2.1]; exact nI_lt hH.2.2.2.2.1 (by have := hH.2.2.2.1; omega)) ⟨i1, nm_r (e' := upd (B 16) c (nI (p + 1))) (by rw [i2, nI_1]) ⟨i3, nm_r (e' := (B 1) p) (by rw [i4]) ⟨i3, nm_r (e' := 9) (by rw [i4]; exact hc) <| br_f (by decide) <| br_f (by decide) <| br_f uv_n_9_0 <| br_f uv_n_9_1 <| br_f uv_n_9_2 <| br_f uv_n_9_3 <| br_f uv_n_9_4 <| br_f uv_n_9_5 <| br_f uv_n_9_6 <| br_f uv_n_9_7 <| br_f uv_n_9_8 <| br_t rfl ?_⟩⟩⟩⟩
  refine yw_leave (G := G) (B := (uv_st B 16 (upd (B 16) c (nI (p + 1))))) (j := j) hH.2.1 hb hj ?_
  refine yw_pe (a := (B 1)) (G := G) (B := (uv_st (uv_st (uv_st B 16 (upd (B 16) c (nI (p + 1)))) 17 (upd (B 17) c ((B 23) (c * 10 + j)))) 19 (upd (B 19) c (nI j)))) hS hH.2.2.1 hH.2.2.2.1 hq hcl ?_
  exact ⟨i1, nm_r (e' := upd (upd (B 16) c (nI (p + 1))) c (nI (q + 1))) (by rw [i2, nI_1]; rfl) h⟩
theorem yp_10f (hH : yp_H G B n p c) (hc : (B 0) p = 10) (hb : (B 19) c = nI 0) (h : ∀ p2 : SY → Prop, (∀ u, post u → p2 u) → wpY_finish p2 (uv_Y G (uv_st B 16 (upd (B 16) c (nI (p + 1))))) 0 0) : wpY_step post (uv_Y G B) := by
  have i1 : vp_in (nI c) 12 := vp_in_nI hH.2.1 (by omega)
  have i2 : (nI c).toNatClampNeg = c := nI_clamp (by have := hH.2.1; omega)
  have i3 : vp_in (nI p) 96 := vp_in_nI (by have := hH.2.2.2.1; have := hH.2.2.2.2.1; omega) (by omega)
  have i4 : (nI p).toNatClampNeg = p := nI_clamp (by have := hH.2.2.2.1; have := hH.2.2.2.2.1; omega)
  unfold wpY_step uv_Y
  refine nm_r (e' := nI c) (uv_p1 hH.1) ⟨i1, nm_r (e' := nI p) (by rw [i2]; exact hH.2.2.2.2.2) <| br_t (by rw [hH.2.2.1]; exact nI_lt hH.2.2.2.2.1 (by have := hH.2.2.2.1; omega)) ⟨i1, nm_r (e' := upd (B 16) c (nI (p + 1))) (by rw [i2, nI_1]) ⟨i3, nm_r (e' := (B 1) p) (by rw [i4]) ⟨i3, nm_r (e' := 10) (by rw [i4]; exact hc) <| br_f (by decide) <| br_t (by decide) ?_⟩⟩⟩⟩
  unfold wpY_doEnd
  refine yw_leave0 (G := G) (B := (uv_st B 16 (upd (B 16) c (nI (p + 1))))) hH.2.1 hb ?_
  exact br_f (by decide) (h _ (fun u hu => hu))
theorem yp_10b (hH : yp_H G B n p c) (hc : (B 0) p = 10) (hb : (B 19) c = nI (j + 1)) (hj : j < 10) (hw : (B 22) (c * 10 + j) = nI w) (hw2 : w < 96) (ha : (B 1) w ≠ 3)
    (h : post (uv_Y G (uv_st (uv_st (uv_st B 16 (upd (B 16) c (nI (p + 1)))) 17 (upd (B 17) c ((B 23) (c * 10 + j)))) 19 (upd (B 19) c (nI j))))) : wpY_step post (uv_Y G B) := by
  have i1 : vp_in (nI c) 12 := vp_in_nI hH.2.1 (by omega)
  have i2 : (nI c).toNatClampNeg = c := nI_clamp (by have := hH.2.1; omega)
  have i3 : vp_in (nI p) 96 := vp_in_nI (by have := hH.2.2.2.1; have := hH.2.2.2.2.1; omega) (by omega)
  have i4 : (nI p).toNatClampNeg = p := nI_clamp (by have := hH.2.2.2.1; have := hH.2.2.2.2.1; omega)
  unfold wpY_step uv_Y
  refine nm_r (e' := nI c) (uv_p1 hH.1) ⟨i1, nm_r (e' := nI p) (by rw [i2]; exact hH.2.2.2.2.2) <| br_t (by rw [hH.2.2.1]; exact nI_lt hH.2.2.2.2.1 (by have := hH.2.2.2.1; omega)) ⟨i1, nm_r (e' := upd (B 16) c (nI (p + 1))) (by rw [i2, nI_1]) ⟨i3, nm_r (e' := (B 1) p) (by rw [i4]) ⟨i3, nm_r (e' := 10) (by rw [i4]; exact hc) <| br_f (by decide) <| br_t (by decide) ?_⟩⟩⟩⟩
  unfold wpY_doEnd
  refine yw_leave (G := G) (B := (uv_st B 16 (upd (B 16) c (nI (p + 1))))) (j := j) hH.2.1 hb hj ?_
  have j1 : vp_in (nI w) 96 := vp_in_nI hw2 (by omega)
  have j2 : (nI w).toNatClampNeg = w := nI_clamp (by omega)
  have hw' : ((uv_st B 16 (upd (B 16) c (nI (p + 1))))) 22 (c * 10 + j) = nI w := hw
  rw [hw']
  refine br_t (nI_pos' (by omega)) ⟨j1, ?_⟩
  rw [j2]
  exact br_f ha h
theorem yp_10l (hH : yp_H G B n p c) (hc : (B 0) p = 10) (hb : (B 19) c = nI (j + 1)) (hj : j < 10) (hw : (B 22) (c * 10 + j) = nI w) (hw2 : w < 96) (ha : (B 1) w = 3) (hf : (G 12) = nI fu) (hfu : fu < 1000)
    (h8 : fu = 0 → post (uv_Y (uv_st G 16 (8)) (uv_st (uv_st (uv_st B 16 (upd (B 16) c (nI (p + 1)))) 17 (upd (B 17) c ((B 23) (c * 10 + j)))) 19 (upd (B 19) c (nI j)))))
    (h0 : ∀ f, fu = f + 1 → post (uv_Y (uv_st G 12 (nI f)) (uv_st (uv_st (uv_st (uv_st (uv_st B 16 (upd (upd (B 16) c (nI (p + 1))) c (nI (w + 1)))) 17 (upd (B 17) c ((B 23) (c * 10 + j)))) 22 (upd (B 22) (c * 10 + j) (nI w))) 23 (upd (B 23) (c * 10 + j) (upd (B 17) c ((B 23) (c * 10 + j)) c))) 19 (upd (upd (B 19) c (nI j)) c (nI (j + 1)))))) : wpY_step post (uv_Y G B) := by
  have i1 : vp_in (nI c) 12 := vp_in_nI hH.2.1 (by omega)
  have i2 : (nI c).toNatClampNeg = c := nI_clamp (by have := hH.2.1; omega)
  have i3 : vp_in (nI p) 96 := vp_in_nI (by have := hH.2.2.2.1; have := hH.2.2.2.2.1; omega) (by omega)
  have i4 : (nI p).toNatClampNeg = p := nI_clamp (by have := hH.2.2.2.1; have := hH.2.2.2.2.1; omega)
  unfold wpY_step uv_Y
  refine nm_r (e' := nI c) (uv_p1 hH.1) ⟨i1, nm_r (e' := nI p) (by rw [i2]; exact hH.2.2.2.2.2) <| br_t (by rw [hH.2.2.1]; exact nI_lt hH.2.2.2.2.1 (by have := hH.2.2.2.1; omega)) ⟨i1, nm_r (e' := upd (B 16) c (nI (p + 1))) (by rw [i2, nI_1]) ⟨i3, nm_r (e' := (B 1) p) (by rw [i4]) ⟨i3, nm_r (e' := 10) (by rw [i4]; exact hc) <| br_f (by decide) <| br_t (by decide) ?_⟩⟩⟩⟩
  unfold wpY_doEnd
  refine yw_leave (G := G) (B := (uv_st B 16 (upd (B 16) c (nI (p + 1))))) (j := j) hH.2.1 hb hj ?_
  have j1 : vp_in (nI w) 96 := vp_in_nI hw2 (by omega)
  have j2 : (nI w).toNatClampNeg = w := nI_clamp (by omega)
  have hw' : ((uv_st B 16 (upd (B 16) c (nI (p + 1))))) 22 (c * 10 + j) = nI w := hw
  rw [hw']
  refine br_t (nI_pos' (by omega)) ⟨j1, ?_⟩
  rw [j2]
  refine br_t ha ?_
  rcases Nat.eq_zero_or_pos fu with z | z
  · rw [z] at hf
    exact yw_pass0 (G := G) (B := (uv_st (uv_st (uv_st B 16 (upd (B 16) c (nI (p + 1)))) 17 (upd (B 17) c ((B 23) (c * 10 + j)))) 19 (upd (B 19) c (nI j)))) hf (h8 z)
  · obtain ⟨f, rfl⟩ : ∃ f, fu = f + 1 := ⟨fu - 1, by omega⟩
    exact yw_pass (G := G) (B := (uv_st (uv_st (uv_st B 16 (upd (B 16) c (nI (p + 1)))) 17 (upd (B 17) c ((B 23) (c * 10 + j)))) 19 (upd (B 19) c (nI j)))) hf (by omega) hH.2.1 pk_us hj (h0 f rfl)
theorem yp_end (h1 : (G 15) = nI (c + 1)) (hcb : c < 12) (h2 : (G 4) = nI n) (h96 : n ≤ 96) (h3 : (B 16) c = nI n) (h : ∀ p2 : SY → Prop, (∀ u, post u → p2 u) → wpY_finish p2 (uv_Y G B) 0 0) : wpY_step post (uv_Y G B) := by
  have i1 : vp_in (nI c) 12 := vp_in_nI hcb (by omega)
  have i2 : (nI c).toNatClampNeg = c := nI_clamp (by omega)
  unfold wpY_step uv_Y
  exact nm_r (e' := nI c) (uv_p1 h1) ⟨i1, nm_r (e' := nI n) (by rw [i2]; exact h3) <| br_f (by rw [h2]; exact nI_nlt (Nat.le_refl _) (by omega)) (h _ (fun u hu => hu))⟩
end
end
section
/-! one step of both: the operands -/
theorem ss_V0 {k a : Int32} {p : Nat} {s t : ss_T} (r : ss_R k a p s t) (hk : k = 0) : ss_Q s < 6 ∧ t = ss_smp s (ss_Q s + 1) := by
  subst hk
  rcases r with ⟨_, r⟩ | ⟨z, _⟩ | ⟨z, _⟩ | ⟨z, _⟩ | ⟨z, _⟩ | ⟨z, _⟩ | ⟨z, _⟩ | ⟨z, _⟩ | ⟨z, _⟩ | ⟨z, _⟩ | ⟨z, _⟩
  · exact r
  · exact absurd z uv_n_0_1
  · exact absurd z uv_n_0_2
  · exact absurd z uv_n_0_3
  · exact absurd z uv_n_0_4
  · exact absurd z uv_n_0_5
  · exact absurd z uv_n_0_6
  · exact absurd z uv_n_0_7
  · exact absurd z uv_n_0_8
  · exact absurd z uv_n_0_9
  · exact absurd z uv_n_0_10
theorem ss_V1 {k a : Int32} {p : Nat} {s t : ss_T} (r : ss_R k a p s t) (hk : k = 1) : ss_nm a ∧ ss_l s a ≠ 0 ∧ ss_Q s < 6 ∧ t = ss_smp s (ss_Q s + 1) := by
  subst hk
  rcases r with ⟨z, _⟩ | ⟨_, r⟩ | ⟨z, _⟩ | ⟨z, _⟩ | ⟨z, _⟩ | ⟨z, _⟩ | ⟨z, _⟩ | ⟨z, _⟩ | ⟨z, _⟩ | ⟨z, _⟩ | ⟨z, _⟩
  · exact absurd z uv_n_1_0
  · exact r
  · exact absurd z uv_n_1_2
  · exact absurd z uv_n_1_3
  · exact absurd z uv_n_1_4
  · exact absurd z uv_n_1_5
  · exact absurd z uv_n_1_6
  · exact absurd z uv_n_1_7
  · exact absurd z uv_n_1_8
  · exact absurd z uv_n_1_9
  · exact absurd z uv_n_1_10
theorem ss_V2 {k a : Int32} {p : Nat} {s t : ss_T} (r : ss_R k a p s t) (hk : k = 2) : ss_k5 a ∧ 2 ≤ ss_Q s ∧ t = ss_smp s (ss_Q s - 1) := by
  subst hk
  rcases r with ⟨z, _⟩ | ⟨z, _⟩ | ⟨_, r⟩ | ⟨z, _⟩ | ⟨z, _⟩ | ⟨z, _⟩ | ⟨z, _⟩ | ⟨z, _⟩ | ⟨z, _⟩ | ⟨z, _⟩ | ⟨z, _⟩
  · exact absurd z uv_n_2_0
  · exact absurd z uv_n_2_1
  · exact r
  · exact absurd z uv_n_2_3
  · exact absurd z uv_n_2_4
  · exact absurd z uv_n_2_5
  · exact absurd z uv_n_2_6
  · exact absurd z uv_n_2_7
  · exact absurd z uv_n_2_8
  · exact absurd z uv_n_2_9
  · exact absurd z uv_n_2_10
theorem ss_V3 {k a : Int32} {p : Nat} {s t : ss_T} (r : ss_R k a p s t) (hk : k = 3) : 2 ≤ ss_Q s ∧ t = ss_smp s (ss_Q s - 1) := by
  subst hk
  rcases r with ⟨z, _⟩ | ⟨z, _⟩ | ⟨z, _⟩ | ⟨_, r⟩ | ⟨z, _⟩ | ⟨z, _⟩ | ⟨z, _⟩ | ⟨z, _⟩ | ⟨z, _⟩ | ⟨z, _⟩ | ⟨z, _⟩
  · exact absurd z uv_n_3_0
  · exact absurd z uv_n_3_1
  · exact absurd z uv_n_3_2
  · exact r
  · exact absurd z uv_n_3_4
  · exact absurd z uv_n_3_5
  · exact absurd z uv_n_3_6
  · exact absurd z uv_n_3_7
  · exact absurd z uv_n_3_8
  · exact absurd z uv_n_3_9
  · exact absurd z uv_n_3_10
theorem ss_V4 {k a : Int32} {p : Nat} {s t : ss_T} (r : ss_R k a p s t) (hk : k = 4) : ss_nm a ∧ ss_Q s < 6 ∧ ss_O s < 10 ∧ ss_F s < 16 ∧ t = ss_fun s p a := by
  subst hk
  rcases r with ⟨z, _⟩ | ⟨z, _⟩ | ⟨z, _⟩ | ⟨z, _⟩ | ⟨_, r⟩ | ⟨z, _⟩ | ⟨z, _⟩ | ⟨z, _⟩ | ⟨z, _⟩ | ⟨z, _⟩ | ⟨z, _⟩
  · exact absurd z uv_n_4_0
  · exact absurd z uv_n_4_1
  · exact absurd z uv_n_4_2
  · exact absurd z uv_n_4_3
  · exact r
  · exact absurd z uv_n_4_5
  · exact absurd z uv_n_4_6
  · exact absurd z uv_n_4_7
  · exact absurd z uv_n_4_8
  · exact absurd z uv_n_4_9
  · exact absurd z uv_n_4_10
theorem ss_V5 {k a : Int32} {p : Nat} {s t : ss_T} (r : ss_R k a p s t) (hk : k = 5) : ss_nm a ∧ ss_Q s = 1 ∧ ss_L s < 8 ∧ t = ss_dcl s a := by
  subst hk
  rcases r with ⟨z, _⟩ | ⟨z, _⟩ | ⟨z, _⟩ | ⟨z, _⟩ | ⟨z, _⟩ | ⟨_, r⟩ | ⟨z, _⟩ | ⟨z, _⟩ | ⟨z, _⟩ | ⟨z, _⟩ | ⟨z, _⟩
  · exact absurd z uv_n_5_0
  · exact absurd z uv_n_5_1
  · exact absurd z uv_n_5_2
  · exact absurd z uv_n_5_3
  · exact absurd z uv_n_5_4
  · exact r
  · exact absurd z uv_n_5_6
  · exact absurd z uv_n_5_7
  · exact absurd z uv_n_5_8
  · exact absurd z uv_n_5_9
  · exact absurd z uv_n_5_10
theorem ss_V6 {k a : Int32} {p : Nat} {s t : ss_T} (r : ss_R k a p s t) (hk : k = 6) : ss_nm a ∧ ss_Q s = 1 ∧ ss_l s a ≠ 0 ∧ t = ss_smp s 0 := by
  subst hk
  rcases r with ⟨z, _⟩ | ⟨z, _⟩ | ⟨z, _⟩ | ⟨z, _⟩ | ⟨z, _⟩ | ⟨z, _⟩ | ⟨_, r⟩ | ⟨z, _⟩ | ⟨z, _⟩ | ⟨z, _⟩ | ⟨z, _⟩
  · exact absurd z uv_n_6_0
  · exact absurd z uv_n_6_1
  · exact absurd z uv_n_6_2
  · exact absurd z uv_n_6_3
  · exact absurd z uv_n_6_4
  · exact absurd z uv_n_6_5
  · exact r
  · exact absurd z uv_n_6_7
  · exact absurd z uv_n_6_8
  · exact absurd z uv_n_6_9
  · exact absurd z uv_n_6_10
theorem ss_V7 {k a : Int32} {p : Nat} {s t : ss_T} (r : ss_R k a p s t) (hk : k = 7) : ss_k5 a ∧ ss_Q s = 1 ∧ ((a = 3 ∨ a = 4) → ss_lx (ss_K s) (ss_O s) ≠ 0) ∧ t = ss_smp s 0 := by
  subst hk
  rcases r with ⟨z, _⟩ | ⟨z, _⟩ | ⟨z, _⟩ | ⟨z, _⟩ | ⟨z, _⟩ | ⟨z, _⟩ | ⟨z, _⟩ | ⟨_, r⟩ | ⟨z, _⟩ | ⟨z, _⟩ | ⟨z, _⟩
  · exact absurd z uv_n_7_0
  · exact absurd z uv_n_7_1
  · exact absurd z uv_n_7_2
  · exact absurd z uv_n_7_3
  · exact absurd z uv_n_7_4
  · exact absurd z uv_n_7_5
  · exact absurd z uv_n_7_6
  · exact r
  · exact absurd z uv_n_7_8
  · exact absurd z uv_n_7_9
  · exact absurd z uv_n_7_10
theorem ss_V8 {k a : Int32} {p : Nat} {s t : ss_T} (r : ss_R k a p s t) (hk : k = 8) : (a = 1 ∨ a = 2 ∨ a = 3) ∧ ss_Q s = (if a = 2 then 1 else 0) ∧ ss_O s < 10 ∧ t = ss_blk s p a := by
  subst hk
  rcases r with ⟨z, _⟩ | ⟨z, _⟩ | ⟨z, _⟩ | ⟨z, _⟩ | ⟨z, _⟩ | ⟨z, _⟩ | ⟨z, _⟩ | ⟨z, _⟩ | ⟨_, r⟩ | ⟨z, _⟩ | ⟨z, _⟩
  · exact absurd z uv_n_8_0
  · exact absurd z uv_n_8_1
  · exact absurd z uv_n_8_2
  · exact absurd z uv_n_8_3
  · exact absurd z uv_n_8_4
  · exact absurd z uv_n_8_5
  · exact absurd z uv_n_8_6
  · exact absurd z uv_n_8_7
  · exact r
  · exact absurd z uv_n_8_9
  · exact absurd z uv_n_8_10
theorem ss_V9 {k a : Int32} {p : Nat} {s t : ss_T} (r : ss_R k a p s t) (hk : k = 9) : a = 0 ∧ 1 ≤ ss_O s ∧ ss_K s (ss_O s) = 2 ∧ ss_Q s = 0 ∧ t = ss_els s p := by
  subst hk
  rcases r with ⟨z, _⟩ | ⟨z, _⟩ | ⟨z, _⟩ | ⟨z, _⟩ | ⟨z, _⟩ | ⟨z, _⟩ | ⟨z, _⟩ | ⟨z, _⟩ | ⟨z, _⟩ | ⟨_, r⟩ | ⟨z, _⟩
  · exact absurd z uv_n_9_0
  · exact absurd z uv_n_9_1
  · exact absurd z uv_n_9_2
  · exact absurd z uv_n_9_3
  · exact absurd z uv_n_9_4
  · exact absurd z uv_n_9_5
  · exact absurd z uv_n_9_6
  · exact absurd z uv_n_9_7
  · exact absurd z uv_n_9_8
  · exact r
  · exact absurd z uv_n_9_10
theorem ss_V10 {k a : Int32} {p : Nat} {s t : ss_T} (r : ss_R k a p s t) (hk : k = 10) : 1 ≤ ss_O s ∧ ss_Q s = 0 ∧ ((ss_K s (ss_O s) = 5 ∧ t = ss_enf s) ∨ (ss_K s (ss_O s) ≠ 5 ∧ t = ss_enb s)) := by
  subst hk
  rcases r with ⟨z, _⟩ | ⟨z, _⟩ | ⟨z, _⟩ | ⟨z, _⟩ | ⟨z, _⟩ | ⟨z, _⟩ | ⟨z, _⟩ | ⟨z, _⟩ | ⟨z, _⟩ | ⟨z, _⟩ | ⟨_, r⟩
  · exact absurd z uv_n_10_0
  · exact absurd z uv_n_10_1
  · exact absurd z uv_n_10_2
  · exact absurd z uv_n_10_3
  · exact absurd z uv_n_10_4
  · exact absurd z uv_n_10_5
  · exact absurd z uv_n_10_6
  · exact absurd z uv_n_10_7
  · exact absurd z uv_n_10_8
  · exact absurd z uv_n_10_9
  · exact r
theorem rr_mu_top {n top p : Nat} {pcs : Nat → Nat} : rr_mu n (uv_st pcs top p) (top + 1) = rr_mu n pcs top + (n + 1 - p) := by
  show rr_mu n (uv_st pcs top p) top + (n + 1 - uv_st pcs top p top) = _
  rw [uv_se, rr_mu_cg (fun c hc => uv_sn (by omega))]
theorem rr_mu_lt {n top p fu : Nat} {pcs : Nat → Nat} (h : pcs top < p) (hp : p ≤ n) : 97 * fu + rr_mu n (uv_st pcs top p) (top + 1) < 97 * fu + rr_mu n pcs (top + 1) := by
  have e : rr_mu n pcs (top + 1) = rr_mu n pcs top + (n + 1 - pcs top) := rfl
  rw [rr_mu_top, e]; omega
theorem fr_push {oK oV rk rv : Nat → Int32} {c6 B0 o cc cc' r : Nat} {x y : Int32} (h : ∀ i, i < o → oK (c6 + i) = rk (B0 + i) ∧ oV (c6 + i) = rv (B0 + i) ∧ rr_v cc (oK (c6 + i)) (oV (c6 + i))) (hr : r = B0 + o) (hxy : rr_v cc' x y) (hcc : cc ≤ cc') :
    ∀ i, i < o + 1 → upd oK (c6 + o) x (c6 + i) = upd rk r x (B0 + i) ∧ upd oV (c6 + o) y (c6 + i) = upd rv r y (B0 + i) ∧ rr_v cc' (upd oK (c6 + o) x (c6 + i)) (upd oV (c6 + o) y (c6 + i)) := by
  intro i hi
  subst hr
  by_cases e : i = o
  · subst e
    rw [pk_us, pk_us, pk_us, pk_us]; exact ⟨rfl, rfl, hxy⟩
  · rw [pk_un (by omega), pk_un (by omega), pk_un (by omega), pk_un (by omega)]
    obtain ⟨a, b, d⟩ := h i (by omega)
    exact ⟨a, b, rr_v_up d hcc⟩
section
variable {S : Nat → ss_T} {n : Nat} {rn N g : Nat → Nat} {uc nd cc fu ou : Nat} {EC : Nat → Nat → Int32} {top : Nat} {pcs bas oo : Nat → Nat} {slf : Nat → Int32} {EE : Nat → Nat → Int32} {F G : Nat → Int32} {A B : Nat → Nat → Int32}
theorem st_0 (hB : rr_B S n rn N g uc nd cc fu ou EC F A G B) (hF : rr_F S n rn nd cc EC top pcs bas oo slf EE F A G B) (hp : pcs top < n) (hk : (B 0) (pcs top) = 0) : rr_step (97 * fu + rr_mu n pcs (top + 1)) F A G B := by
  have hB0 := hB
  have hF0 := hF
  obtain ⟨h1, ⟨mw, mf, md, mc, l1, l2, l3, l4, l5, l6, l7, l8, l9, l10, l11, l12, l13, l14, l15, l16⟩, h3, h4, h5, ⟨n1, n2, n3, n4, n5, n6, n7, n8, n9, n10, n11, n12⟩, h7, h8, h9⟩ := hB
  obtain ⟨g1, g2, g3, g4, g5, g6, g7, g8, g9, g10, g11⟩ := hF
  obtain ⟨t1, t2, t3, t4, ⟨y1, y2, y3, y4, y5⟩, ⟨x1, x2, x3⟩, t7, _⟩ := g11 top (Nat.le_refl _)
  rw [if_pos rfl, Nat.add_zero] at t7
  have hIA := ss_I_S h1
  have hI := hIA (pcs top) t1
  have hQ6 := ss_Q6 hI
  have hL8 := ss_L8 hI
  have hV88 := ss_V88 hI
  have n96 : n ≤ 96 := by omega
  have hYH : yp_H G B n (pcs top) top := ⟨g2, g1, l16, n96, hp, t2⟩
  obtain ⟨w1, w2, w3⟩ := (h3.1 (pcs top) hp).1 hk
  obtain ⟨hq, hS⟩ := ss_V0 (h1.2 (pcs top) hp) hk
  have hH : xs_H F A n (pcs top) (bas top + ss_L (S (pcs top)) + ss_Q (S (pcs top))) := ⟨g6, l15, hp, n96, by rw [g7, w2, nI_add, Nat.add_assoc]⟩
  have hr0 : rn (bas top + ss_L (S (pcs top)) + ss_Q (S (pcs top))) = 0 := g10 _ (by omega)
  refine ⟨0, _, _, _, _, fun post h => xs_0 hH w1 (by omega) h, fun post h => yp_0 (o := oo top) hYH hk y1 (by omega) h, Or.inl ⟨rfl, g4, _, rr_mu_lt (Nat.lt_succ_self _) hp, S, n, rn, N, g, uc, nd, cc, fu, ou, EC, top, uv_st pcs top (pcs top + 1), bas, uv_st oo top (ss_Q (S (pcs top)) + 1), slf, EE, ?_, ?_, rfl⟩⟩
  · exact rr_B_up hB0 (fun i hi => uv_sn (by omega)) (fun i hi => by rw [uv_sn (by omega), uv_sn (by omega)]) (fun _ _ => rfl) (fun i hi => by rw [uv_sn (by omega), uv_sn (by omega), uv_sn (by omega), uv_sn (by omega)]) n6 n7 (Nat.le_refl _) n11 n12 (hp_setop h5 hr0) h8
  · refine rr_F_smp hIA hF0 (p := pcs top + 1) (q := ss_Q (S (pcs top)) + 1) hp (by rw [hS]; exact ss_eq_smp _ _) (by rw [hS, ss_smp_Q]) rfl rfl rfl rfl rfl rfl rfl rfl rfl rfl pk_us (fun c hc => pk_un (by omega)) rfl (by show upd ((B 18)) top (nI (oo top + 1)) top = _; rw [pk_us, t7]) (fun c hc => pk_un (by omega)) rfl rfl rfl rfl rfl ?_ ?_ ?_ (Nat.le_refl _) (fun _ _ => ⟨rfl, rfl⟩)
    · intro i hi
      exact ⟨pk_un (by omega), pk_un (by omega)⟩
    · rw [← w3]
      rw [← t7]
      exact fr_push x2 rfl (Or.inl rfl) (Nat.le_refl _)
    · intro r hr _
      exact ⟨pk_un (by omega), pk_un (by omega)⟩
end
end
section
/-! one step of both: names and operations -/
section
variable {S : Nat → ss_T} {n : Nat} {rn N g : Nat → Nat} {uc nd cc fu ou : Nat} {EC : Nat → Nat → Int32} {top : Nat} {pcs bas oo : Nat → Nat} {slf : Nat → Int32} {EE : Nat → Nat → Int32} {F F' G G' : Nat → Int32} {A A' B B' : Nat → Nat → Int32}
theorem rr_err (hB : rr_B S n rn N g uc nd cc fu ou EC F A G B) (eF : ∀ i, 24 ≤ i → i ≤ 39 → F' i = F i) (eA : ∀ i, i ≤ 23 → A' i = A i) (eG : yp_G G G') (eB : ∀ i, i ≤ 15 → B' i = B i) : rr_Q F' A' G' B' := by
  have hB0 := hB
  obtain ⟨h1, _, h3, h4, h5, ⟨n1, n2, n3, n4, n5, n6, n7, n8, n9, n10, n11, n12⟩, h7, h8, h9⟩ := hB
  refine ⟨S, n, rn, N, g, uc, nd, cc, fu, ou, EC, rr_B_up hB0 (fun i hi => eF i (by omega) (by omega)) (fun i hi => eA i (by omega)) (fun i hi => eG i (by omega)) (fun i hi => eB i (by omega)) ?_ ?_ (Nat.le_refl _) ?_ ?_ ?_ ?_⟩
  · rw [eF 36 (by omega) (by omega)]; exact n6
  · rw [eG 12 (by omega)]; exact n7
  · rw [eF 34 (by omega) (by omega), eG 10 (by omega)]; exact n11
  · rw [eF 35 (by omega) (by omega), eG 11 (by omega)]; exact n12
  · rw [eF 39 (by omega) (by omega), eA 18 (by omega), eA 19 (by omega), eA 20 (by omega), eA 21 (by omega), eA 22 (by omega), eA 23 (by omega), eB 13 (by omega), eB 14 (by omega)]; exact h5
  · rw [eB 13 (by omega), eB 14 (by omega)]; exact h8
/-- the variable that a name means, on both sides -/
theorem st_look {x : Int32} {m : Nat} (hB : rr_B S n rn N g uc nd cc fu ou EC F A G B) (hF : rr_F S n rn nd cc EC top pcs bas oo slf EE F A G B) (hp : pcs top < n) (hx : x = nI m) (hm : m < 8) (hl : ss_l (S (pcs top)) x ≠ 0) :
    ∃ v, v < nd ∧ EE top (ss_l (S (pcs top)) x) = nI v ∧ (ss_C (S (pcs top)) (ss_f (S (pcs top))) < ss_l (S (pcs top)) x → rn (bas top + (ss_l (S (pcs top)) x - 1 - ss_C (S (pcs top)) (ss_f (S (pcs top))))) = v + 1) ∧
      (ss_l (S (pcs top)) x ≤ ss_C (S (pcs top)) (ss_f (S (pcs top))) → ((B 0) (pcs top) = 1 ∨ (B 0) (pcs top) = 6) → (B 1) (pcs top) = x → ∃ t u, (F 42) = nI t ∧ t < cc ∧ cc ≤ 32 ∧ u < uc ∧ (A 17) (t * 8 + m) = nI u ∧ N u = v) := by
  have hB0 := hB
  have hF0 := hF
  obtain ⟨h1, ⟨mw, mf, md, mc, l1, l2, l3, l4, l5, l6, l7, l8, l9, l10, l11, l12, l13, l14, l15, l16⟩, h3, h4, h5, ⟨n1, n2, n3, n4, n5, n6, n7, n8, n9, n10, n11, n12⟩, h7, h8, h9⟩ := hB
  obtain ⟨g1, g2, g3, g4, g5, g6, g7, g8, g9, g10, g11⟩ := hF
  obtain ⟨t1, t2, t3, t4, ⟨y1, y2, y3, y4, y5⟩, ⟨x1, x2, x3⟩, t7, _⟩ := g11 top (Nat.le_refl _)
  rw [if_pos rfl, Nat.add_zero] at t7
  have hIA := ss_I_S h1
  have hI := hIA (pcs top) t1
  have hQ6 := ss_Q6 hI
  have hL8 := ss_L8 hI
  have hV88 := ss_V88 hI
  have n96 : n ≤ 96 := by omega
  have hYH : yp_H G B n (pcs top) top := ⟨g2, g1, l16, n96, hp, t2⟩
  have hlV : ss_l (S (pcs top)) x ≤ ss_V (S (pcs top)) := ss_ls_le _ _ _
  obtain ⟨v, v1, v2, v3, v4⟩ := y4.2 (ss_l (S (pcs top)) x - 1) (by omega)
  rw [show ss_l (S (pcs top)) x - 1 + 1 = ss_l (S (pcs top)) x by omega] at v2
  have nd160 := h5.1
  have hCV := ss_I_cf hI
  refine ⟨v, v1, v2, fun hc => ?_, fun hc hk ha => ?_⟩
  · have eL : ss_L (S (pcs top)) = ss_V (S (pcs top)) - ss_C (S (pcs top)) (ss_f (S (pcs top))) := rfl
    obtain ⟨r1, r2⟩ := x1 (ss_l (S (pcs top)) x - 1 - ss_C (S (pcs top)) (ss_f (S (pcs top)))) (by omega)
    rw [show ss_C (S (pcs top)) (ss_f (S (pcs top))) + (ss_l (S (pcs top)) x - 1 - ss_C (S (pcs top)) (ss_f (S (pcs top)))) + 1 = ss_l (S (pcs top)) x by omega, v2] at r2
    have rb := (h5.2.2.2.1 _ r1).2.1
    have := (nI_eq (by omega) (by omega)).mp r2
    omega
  · rcases t4 with ⟨z, _⟩ | ⟨f0, t, q1, q2, q3, q4⟩
    · rw [z, hI.2.2.2.1] at hc; omega
    · have cc32 : cc ≤ 32 := by omega
      obtain ⟨W, c1, c2, c3, c4, c5, c6, c7, c8⟩ := h9 t q1
      have hfl := ss_f_le (S (pcs top))
      have hf5 : ss_K (S (pcs top)) (ss_f (S (pcs top))) = 5 := (xc_f5 (S (pcs top))).resolve_left f0
      have wl := (hI.2.2.2.2.2.2.1 (ss_f (S (pcs top))) (by omega) hfl).1
      have eW : W = ss_W (S (pcs top)) (ss_f (S (pcs top))) := (nI_eq (by omega) (by omega)).mp (c1.symm.trans q3)
      have on : ss_on S (pcs top) W (ss_f (S (pcs top))) := ⟨by omega, hfl, eW.symm⟩
      have cap : ss_cap ((B 0)) ((B 1)) S n W (nI m) := ⟨pcs top, ss_f (S (pcs top)), hp, hk, by rw [ha, hx], by omega, hfl, hf5, eW.symm, by rw [← hx]; exact hc⟩
      obtain ⟨u, u1, u2, u3⟩ := (c8 m hm).1 cap
      have el := ss_fw_l h1 t1 on hf5 hc
      rw [← hx, el] at u3
      have e := q4 _ hc
      rw [v2] at e
      have Nu := (h5.2.1 u u1).1
      have := (nI_eq (by omega) (by omega)).mp (e.trans u3)
      exact ⟨t, u, by rw [g8]; exact q2, q1, cc32, u1, u2, this.symm⟩
/-- what the cell of a variable holds -/
theorem st_cell {u : Nat} {h : Int32} {nk nv : Nat → Int32} (H : hp_H rn N g uc nd h (A 18) (A 19) (A 20) (A 21) (A 22) (A 23) nk nv) (hu : u < uc) : xs_c A u (nk (N u)) (nv (N u)) := by
  by_cases e : g u = 0
  · refine Or.inl ⟨?_, ((H.2.2.2.2.2.2.1 u hu e).1).symm, ((H.2.2.2.2.2.2.1 u hu e).2.1).symm⟩
    rw [(H.2.1 u hu).2, e]; rfl
  · have gu := hp_g H hu
    have r := H.2.2.2.2.2.1 u hu e
    have q := H.2.2.2.1 (g u - 1) (by omega)
    rw [r, Nat.add_sub_cancel] at q
    exact Or.inr ⟨g u - 1, by omega, uv_gm (H.2.1 u hu).2 e, q.2.2.1.symm, q.2.2.2.symm⟩
theorem st_1 (hB : rr_B S n rn N g uc nd cc fu ou EC F A G B) (hF : rr_F S n rn nd cc EC top pcs bas oo slf EE F A G B) (hp : pcs top < n) (hk : (B 0) (pcs top) = 1) : rr_step (97 * fu + rr_mu n pcs (top + 1)) F A G B := by
  have hB0 := hB
  have hF0 := hF
  obtain ⟨h1, ⟨mw, mf, md, mc, l1, l2, l3, l4, l5, l6, l7, l8, l9, l10, l11, l12, l13, l14, l15, l16⟩, h3, h4, h5, ⟨n1, n2, n3, n4, n5, n6, n7, n8, n9, n10, n11, n12⟩, h7, h8, h9⟩ := hB
  obtain ⟨g1, g2, g3, g4, g5, g6, g7, g8, g9, g10, g11⟩ := hF
  obtain ⟨t1, t2, t3, t4, ⟨y1, y2, y3, y4, y5⟩, ⟨x1, x2, x3⟩, t7, _⟩ := g11 top (Nat.le_refl _)
  rw [if_pos rfl, Nat.add_zero] at t7
  have hIA := ss_I_S h1
  have hI := hIA (pcs top) t1
  have hQ6 := ss_Q6 hI
  have hL8 := ss_L8 hI
  have hV88 := ss_V88 hI
  have n96 : n ≤ 96 := by omega
  have hYH : yp_H G B n (pcs top) top := ⟨g2, g1, l16, n96, hp, t2⟩
  obtain ⟨w1, w2, w3⟩ := (h3.1 (pcs top) hp).2.1 hk
  obtain ⟨⟨m, hm, ha⟩, hl, hq, hS⟩ := ss_V1 (h1.2 (pcs top) hp) hk
  obtain ⟨v, v1, v2, v3, v4⟩ := st_look hB0 hF0 hp ha hm hl
  have hH : xs_H F A n (pcs top) (bas top + ss_L (S (pcs top)) + ss_Q (S (pcs top))) := ⟨g6, l15, hp, n96, by rw [g7, w1, nI_add, Nat.add_assoc]⟩
  have hr0 : rn (bas top + ss_L (S (pcs top)) + ss_Q (S (pcs top))) = 0 := g10 _ (by omega)
  have nd160 := h5.1
  have X : ∀ post : Int32 → SX → Prop, post 0 (uv_X (uv_st F 40 (nI (pcs top + 1))) (uv_st (uv_st A 22 (upd (A 22) (bas top + ss_L (S (pcs top)) + ss_Q (S (pcs top))) ((B 13) v))) 23 (upd (A 23) (bas top + ss_L (S (pcs top)) + ss_Q (S (pcs top))) ((B 14) v)))) → wpX_step post (uv_X F A) := by
    intro post h
    by_cases hc : ss_C (S (pcs top)) (ss_f (S (pcs top))) < ss_l (S (pcs top)) ((B 1) (pcs top))
    · obtain ⟨c1, c2⟩ := w2 hc
      have rv := v3 hc
      have q := h5.2.2.2.1 _ (show rn (bas top + (ss_l (S (pcs top)) ((B 1) (pcs top)) - 1 - ss_C (S (pcs top)) (ss_f (S (pcs top))))) ≠ 0 by omega)
      rw [rv, Nat.add_sub_cancel] at q
      refine xs_1 hH c1 (by omega) (by rw [g7, c2, nI_add]) (by omega) ?_
      rw [q.2.2.1, q.2.2.2]
      exact h
    · obtain ⟨c1, c2⟩ := w3 (by omega)
      obtain ⟨t, u, q1, q2, q3, q4, q5, q6⟩ := v4 (by omega) (Or.inl hk) rfl
      have xc := st_cell h5 q4
      rw [q6] at xc
      have u160 := (hp_uc h5).2
      exact xs_2 hH c1 (by omega) q1 (by omega) (c2.trans ha) hm q5 (by omega) xc h
  refine ⟨0, _, _, _, _, X, fun post h => yp_1 (o := oo top) hYH hk y1 (by omega) y4 nd160 hV88 y3 v2 v1 h, Or.inl ⟨rfl, g4, _, rr_mu_lt (Nat.lt_succ_self _) hp, S, n, rn, N, g, uc, nd, cc, fu, ou, EC, top, uv_st pcs top (pcs top + 1), bas, uv_st oo top (ss_Q (S (pcs top)) + 1), slf, EE, ?_, ?_, rfl⟩⟩
  · exact rr_B_up hB0 (fun i hi => uv_sn (by omega)) (fun i hi => by rw [uv_sn (by omega), uv_sn (by omega)]) (fun _ _ => rfl) (fun i hi => by rw [uv_sn (by omega), uv_sn (by omega), uv_sn (by omega), uv_sn (by omega)]) n6 n7 (Nat.le_refl _) n11 n12 (hp_setop h5 hr0) h8
  · refine rr_F_smp hIA hF0 (p := pcs top + 1) (q := ss_Q (S (pcs top)) + 1) hp (by rw [hS]; exact ss_eq_smp _ _) (by rw [hS, ss_smp_Q]) rfl rfl rfl rfl rfl rfl rfl rfl rfl rfl pk_us (fun c hc => pk_un (by omega)) rfl (by show upd ((B 18)) top (nI (oo top + 1)) top = _; rw [pk_us, t7]) (fun c hc => pk_un (by omega)) rfl rfl rfl rfl rfl ?_ ?_ ?_ (Nat.le_refl _) (fun _ _ => ⟨rfl, rfl⟩)
    · intro i hi
      exact ⟨pk_un (by omega), pk_un (by omega)⟩
    · rw [← t7]
      exact fr_push x2 rfl (h8 v v1) (Nat.le_refl _)
    · intro r hr _
      exact ⟨pk_un (by omega), pk_un (by omega)⟩
theorem st_2 (hB : rr_B S n rn N g uc nd cc fu ou EC F A G B) (hF : rr_F S n rn nd cc EC top pcs bas oo slf EE F A G B) (hp : pcs top < n) (hk : (B 0) (pcs top) = 2) : rr_step (97 * fu + rr_mu n pcs (top + 1)) F A G B := by
  have hB0 := hB
  have hF0 := hF
  obtain ⟨h1, ⟨mw, mf, md, mc, l1, l2, l3, l4, l5, l6, l7, l8, l9, l10, l11, l12, l13, l14, l15, l16⟩, h3, h4, h5, ⟨n1, n2, n3, n4, n5, n6, n7, n8, n9, n10, n11, n12⟩, h7, h8, h9⟩ := hB
  obtain ⟨g1, g2, g3, g4, g5, g6, g7, g8, g9, g10, g11⟩ := hF
  obtain ⟨t1, t2, t3, t4, ⟨y1, y2, y3, y4, y5⟩, ⟨x1, x2, x3⟩, t7, _⟩ := g11 top (Nat.le_refl _)
  rw [if_pos rfl, Nat.add_zero] at t7
  have hIA := ss_I_S h1
  have hI := hIA (pcs top) t1
  have hQ6 := ss_Q6 hI
  have hL8 := ss_L8 hI
  have hV88 := ss_V88 hI
  have n96 : n ≤ 96 := by omega
  have hYH : yp_H G B n (pcs top) top := ⟨g2, g1, l16, n96, hp, t2⟩
  obtain ⟨w1, w2, w3⟩ := (h3.1 (pcs top) hp).2.2.1 hk
  obtain ⟨_, hq, hS⟩ := ss_V2 (h1.2 (pcs top) hp) hk
  obtain ⟨o, ho⟩ : ∃ o, oo top = o + 2 := ⟨oo top - 2, by omega⟩
  rw [ho] at y1 x2 t7
  have hH : xs_H F A n (pcs top) (bas top + ss_L (S (pcs top)) + o) := ⟨g6, l15, hp, n96, by rw [g7, w2, nI_add]; exact congrArg nI (by omega)⟩
  have hr0 : rn (bas top + ss_L (S (pcs top)) + o) = 0 := g10 _ (by omega)
  obtain ⟨a1, a2, a3⟩ := x2 o (by omega)
  obtain ⟨b1, b2, b3⟩ := x2 (o + 1) (by omega)
  have kx : (B 20) (top * 6 + o) = 0 ∨ (B 20) (top * 6 + o) = 1 := by
    rcases a3 with z | z
    · exact Or.inl z
    · exact Or.inr z.1
  have ky : (B 20) (top * 6 + (o + 1)) = 0 ∨ (B 20) (top * 6 + (o + 1)) = 1 := by
    rcases b3 with z | z
    · exact Or.inl z
    · exact Or.inr z.1
  have b1' : (B 20) (top * 6 + (o + 1)) = (A 22) (bas top + ss_L (S (pcs top)) + o + 1) := b1
  have b2' : (B 21) (top * 6 + (o + 1)) = (A 23) (bas top + ss_L (S (pcs top)) + o + 1) := b2
  cases eo : uv_op ((B 1) (pcs top)) ((B 20) (top * 6 + o)) ((B 21) (top * 6 + o)) ((B 20) (top * 6 + (o + 1))) ((B 21) (top * 6 + (o + 1))) with
  | some v =>
    have eo' := eo
    rw [a1, a2, b1', b2', ← w3] at eo'
    refine ⟨0, (uv_st F 40 (nI (pcs top + 1))), (uv_st (uv_st A 22 (upd (A 22) (bas top + ss_L (S (pcs top)) + o) 0)) 23 (upd (A 23) (bas top + ss_L (S (pcs top)) + o) v)), _, _,
      fun post h => xs_3 hH w1 (by omega) (fun v' ev => by rw [eo'] at ev; cases ev; exact h) (fun ev => by rw [eo'] at ev; cases ev), fun post h => yp_2 hYH hk rfl y1 (by omega) kx ky (fun v' ev => by rw [eo] at ev; cases ev; exact h) (fun ev => by rw [eo] at ev; cases ev), Or.inl ⟨rfl, g4, _, rr_mu_lt (Nat.lt_succ_self _) hp, S, n, rn, N, g, uc, nd, cc, fu, ou, EC, top, uv_st pcs top (pcs top + 1), bas, uv_st oo top (o + 1), slf, EE, ?_, ?_, rfl⟩⟩
    · exact rr_B_up hB0 (fun i hi => uv_sn (by omega)) (fun i hi => by rw [uv_sn (by omega), uv_sn (by omega)]) (fun i hi => by rw [uv_sn (by omega), uv_sn (by omega)]) (fun i hi => by rw [uv_sn (by omega), uv_sn (by omega), uv_sn (by omega), uv_sn (by omega)]) n6 n7 (Nat.le_refl _) n11 n12 (hp_setop h5 hr0) h8
    · refine rr_F_smp hIA hF0 (p := pcs top + 1) (q := o + 1) hp (by rw [hS]; exact ss_eq_smp _ _) (by rw [hS, ss_smp_Q]; omega) rfl rfl rfl rfl rfl rfl rfl rfl rfl rfl pk_us (fun c hc => pk_un (by omega)) rfl pk_us (fun c hc => (pk_un (by omega)).trans ((pk_un (by omega)).trans (pk_un (by omega)))) rfl rfl rfl rfl rfl ?_ ?_ ?_ (Nat.le_refl _) (fun _ _ => ⟨rfl, rfl⟩)
      · intro i hi
        exact ⟨pk_un (by omega), pk_un (by omega)⟩
      · exact fr_push (fun i hi => x2 i (by omega)) rfl (Or.inl rfl) (Nat.le_refl _)
      · intro r hr _
        exact ⟨pk_un (by omega), pk_un (by omega)⟩
  | none =>
    have eo' := eo
    rw [a1, a2, b1', b2', ← w3] at eo'
    refine ⟨5, (uv_st F 40 (nI (pcs top + 1))), A, _, _, fun post h => xs_3 hH w1 (by omega) (fun v' ev => by rw [eo'] at ev; cases ev) (fun _ => h), fun post h => yp_2 hYH hk rfl y1 (by omega) kx ky (fun v' ev => by rw [eo] at ev; cases ev) (fun _ => h), Or.inr (Or.inr ⟨by decide, rfl, ?_⟩)⟩
    exact rr_err hB0 (fun i a b => uv_sn (by omega)) (fun _ _ => rfl) (fun i hi => by rw [uv_sn (by omega), uv_sn (by omega), uv_sn (by omega)]) (fun i hi => by rw [uv_sn (by omega), uv_sn (by omega)])
end
end
section
/-! one step of both: assignment, plain acts, declaration -/
theorem uv_sur (x : Int32) : ∃ r : Nat, x = nI r := ⟨x.toBitVec.toNat, Int32.toBitVec_inj.mp (by show _ = BitVec.ofNat 32 _; simp)⟩
theorem rr_v_upd {nk nv : Nat → Int32} {nd cc v : Nat} {x y : Int32} (h : ∀ w, w < nd → rr_v cc (nk w) (nv w)) (hx : rr_v cc x y) : ∀ w, w < nd → rr_v cc (upd nk v x w) (upd nv v y w) := by
  intro w hw
  by_cases e : w = v
  · rw [e, pk_us, pk_us]; exact hx
  · rw [pk_un e, pk_un e]; exact h w hw
section
variable {S : Nat → ss_T} {n : Nat} {rn N g : Nat → Nat} {uc nd cc fu ou : Nat} {EC : Nat → Nat → Int32} {top : Nat} {pcs bas oo : Nat → Nat} {slf : Nat → Int32} {EE : Nat → Nat → Int32} {F G : Nat → Int32} {A B : Nat → Nat → Int32}
theorem st_6 (hB : rr_B S n rn N g uc nd cc fu ou EC F A G B) (hF : rr_F S n rn nd cc EC top pcs bas oo slf EE F A G B) (hp : pcs top < n) (hk : (B 0) (pcs top) = 6) : rr_step (97 * fu + rr_mu n pcs (top + 1)) F A G B := by
  have hB0 := hB
  have hF0 := hF
  obtain ⟨h1, ⟨mw, mf, md, mc, l1, l2, l3, l4, l5, l6, l7, l8, l9, l10, l11, l12, l13, l14, l15, l16⟩, h3, h4, h5, ⟨n1, n2, n3, n4, n5, n6, n7, n8, n9, n10, n11, n12⟩, h7, h8, h9⟩ := hB
  obtain ⟨g1, g2, g3, g4, g5, g6, g7, g8, g9, g10, g11⟩ := hF
  obtain ⟨t1, t2, t3, t4, ⟨y1, y2, y3, y4, y5⟩, ⟨x1, x2, x3⟩, t7, _⟩ := g11 top (Nat.le_refl _)
  rw [if_pos rfl, Nat.add_zero] at t7
  have hIA := ss_I_S h1
  have hI := hIA (pcs top) t1
  have hQ6 := ss_Q6 hI
  have hL8 := ss_L8 hI
  have hV88 := ss_V88 hI
  have n96 : n ≤ 96 := by omega
  have hYH : yp_H G B n (pcs top) top := ⟨g2, g1, l16, n96, hp, t2⟩
  obtain ⟨w1, w2, w3⟩ := (h3.1 (pcs top) hp).2.2.2.2.2.2.1 hk
  obtain ⟨⟨m, hm, ha⟩, hq, hl, hS⟩ := ss_V6 (h1.2 (pcs top) hp) hk
  obtain ⟨v, v1, v2, v3, v4⟩ := st_look hB0 hF0 hp ha hm hl
  have ho : oo top = 0 + 1 := by omega
  rw [ho] at y1 x2
  obtain ⟨a1, a2, a3⟩ := x2 0 (by omega)
  have hH : xs_H F A n (pcs top) (bas top + ss_L (S (pcs top)) + 0) := ⟨g6, l15, hp, n96, by rw [g7, w1, nI_add]; rfl⟩
  have nd160 := h5.1
  have fin : ∀ (g' : Nat → Nat) (A' : Nat → Nat → Int32), (∀ post : Int32 → SX → Prop, post 0 (uv_X (uv_st F 40 (nI (pcs top + 1))) A') → wpX_step post (uv_X F A)) → (∀ i, i ≤ 17 → A' i = A i) → A' 24 = A 24 → A' 25 = A 25 → A' 26 = A 26 →
      (∀ r, rn r = 0 → (A' 22) r = (A 22) r ∧ (A' 23) r = (A 23) r) → hp_H rn N g' uc nd (F 39) (A' 18) (A' 19) (A' 20) (A' 21) (A' 22) (A' 23) (upd (B 13) v ((B 20) (top * 6 + 0))) (upd (B 14) v ((B 21) (top * 6 + 0))) →
      rr_step (97 * fu + rr_mu n pcs (top + 1)) F A G B := by
    intro g' A' X eA e24 e25 e26 er H'
    refine ⟨0, _, _, _, _, X, fun post h => yp_6 hYH hk y1 (by omega) y4 nd160 hV88 y3 v2 v1 h, Or.inl ⟨rfl, g4, _, rr_mu_lt (Nat.lt_succ_self _) hp, S, n, rn, N, g', uc, nd, cc, fu, ou, EC, top, uv_st pcs top (pcs top + 1), bas, uv_st oo top 0, slf, EE, ?_, ?_, rfl⟩⟩
    · exact rr_B_up hB0 (fun i hi => uv_sn (by omega)) eA (fun i hi => by rw [uv_sn (by omega), uv_sn (by omega)]) (fun i hi => by rw [uv_sn (by omega), uv_sn (by omega), uv_sn (by omega), uv_sn (by omega)]) n6 n7 (Nat.le_refl _) n11 n12 H' (rr_v_upd h8 a3)
    · refine rr_F_smp hIA hF0 (p := pcs top + 1) (q := 0) hp (by rw [hS]; exact ss_eq_smp _ _) (by rw [hS, ss_smp_Q]) rfl rfl rfl rfl rfl rfl rfl e24 e25 e26 pk_us (fun c hc => pk_un (by omega)) rfl pk_us (fun c hc => pk_un (by omega)) rfl rfl rfl rfl rfl ?_ ?_ ?_ (Nat.le_refl _) (fun _ _ => ⟨rfl, rfl⟩)
      · intro i hi; exact ⟨rfl, rfl⟩
      · intro i hi; omega
      · intro r _ hr; exact er r hr
  by_cases hc : ss_C (S (pcs top)) (ss_f (S (pcs top))) < ss_l (S (pcs top)) ((B 1) (pcs top))
  · obtain ⟨c1, c2⟩ := w2 hc
    have rv := v3 hc
    have q := h5.2.2.2.1 _ (show rn (bas top + (ss_l (S (pcs top)) ((B 1) (pcs top)) - 1 - ss_C (S (pcs top)) (ss_f (S (pcs top))))) ≠ 0 by omega)
    refine fin g (uv_st (uv_st A 22 (upd (A 22) (bas top + (ss_l (S (pcs top)) ((B 1) (pcs top)) - 1 - ss_C (S (pcs top)) (ss_f (S (pcs top))))) ((B 20) (top * 6 + 0)))) 23 (upd (A 23) (bas top + (ss_l (S (pcs top)) ((B 1) (pcs top)) - 1 - ss_C (S (pcs top)) (ss_f (S (pcs top))))) ((B 21) (top * 6 + 0)))) ?_ (fun i hi => by rw [uv_sn (by omega), uv_sn (by omega)]) rfl rfl rfl ?_ ?_
    · intro post h
      refine xs_7 hH c1 (by omega) (by rw [g7, c2, nI_add]) (by omega) ?_
      rw [← a1, ← a2]
      exact h
    · intro r hr
      have : r ≠ bas top + (ss_l (S (pcs top)) ((B 1) (pcs top)) - 1 - ss_C (S (pcs top)) (ss_f (S (pcs top)))) := fun z => by rw [z, rv] at hr; omega
      exact ⟨pk_un this, pk_un this⟩
    · exact hp_setvar h5 rv
  · obtain ⟨c1, c2⟩ := w3 (by omega)
    obtain ⟨t, u, q1, q2, q3, q4, q5, q6⟩ := v4 (by omega) (Or.inr hk) rfl
    have u160 := (hp_uc h5).2
    by_cases e : g u = 0
    · have er : (A 18) u = -1 := by rw [(h5.2.1 u q4).2, e]; rfl
      refine fin g (uv_st (uv_st A 19 (upd (A 19) u ((B 20) (top * 6 + 0)))) 20 (upd (A 20) u ((B 21) (top * 6 + 0)))) ?_ (fun i hi => by rw [uv_sn (by omega), uv_sn (by omega)]) rfl rfl rfl (fun _ _ => ⟨rfl, rfl⟩) ?_
      · intro post h
        refine xs_8 hH c1 (by omega) q1 (by omega) (c2.trans ha) hm q5 (by omega) (Or.inl ⟨er, ?_⟩)
        rw [← a1, ← a2]
        exact h
      · rw [← q6]; exact hp_setcl h5 q4 e
    · have er : (A 18) u = nI (g u - 1) := uv_gm (h5.2.1 u q4).2 e
      have gu := hp_g h5 q4
      have rv := h5.2.2.2.2.2.1 u q4 e
      refine fin g (uv_st (uv_st A 22 (upd (A 22) (g u - 1) ((B 20) (top * 6 + 0)))) 23 (upd (A 23) (g u - 1) ((B 21) (top * 6 + 0)))) ?_ (fun i hi => by rw [uv_sn (by omega), uv_sn (by omega)]) rfl rfl rfl ?_ ?_
      · intro post h
        refine xs_8 hH c1 (by omega) q1 (by omega) (c2.trans ha) hm q5 (by omega) (Or.inr ⟨g u - 1, by omega, er, ?_⟩)
        rw [← a1, ← a2]
        exact h
      · intro r hr
        have : r ≠ g u - 1 := fun z => by rw [z, rv] at hr; omega
        exact ⟨pk_un this, pk_un this⟩
      · rw [← q6]; exact hp_setvar h5 rv
/-- a step that only drops the operand -/
theorem st_drop (hB : rr_B S n rn N g uc nd cc fu ou EC F A G B) (hF : rr_F S n rn nd cc EC top pcs bas oo slf EE F A G B) (hp : pcs top < n) (hS : S (pcs top + 1) = ss_smp (S (pcs top)) 0)
    (X : ∀ post : Int32 → SX → Prop, post 0 (uv_X (uv_st F 40 (nI (pcs top + 1))) A) → wpX_step post (uv_X F A))
    (Y : ∀ post : SY → Prop, post (uv_Y (uv_st (uv_st G 17 ((B 20) (top * 6 + 0))) 18 ((B 21) (top * 6 + 0))) (uv_st (uv_st B 16 (upd (B 16) top (nI (pcs top + 1)))) 18 (upd (B 18) top (nI 0)))) → wpY_step post (uv_Y G B)) : rr_step (97 * fu + rr_mu n pcs (top + 1)) F A G B := by
  have hB0 := hB
  have hF0 := hF
  obtain ⟨h1, ⟨mw, mf, md, mc, l1, l2, l3, l4, l5, l6, l7, l8, l9, l10, l11, l12, l13, l14, l15, l16⟩, h3, h4, h5, ⟨n1, n2, n3, n4, n5, n6, n7, n8, n9, n10, n11, n12⟩, h7, h8, h9⟩ := hB
  obtain ⟨g1, g2, g3, g4, g5, g6, g7, g8, g9, g10, g11⟩ := hF
  obtain ⟨t1, t2, t3, t4, ⟨y1, y2, y3, y4, y5⟩, ⟨x1, x2, x3⟩, t7, _⟩ := g11 top (Nat.le_refl _)
  rw [if_pos rfl, Nat.add_zero] at t7
  have hIA := ss_I_S h1
  have hI := hIA (pcs top) t1
  have hQ6 := ss_Q6 hI
  have hL8 := ss_L8 hI
  have hV88 := ss_V88 hI
  have n96 : n ≤ 96 := by omega
  have hYH : yp_H G B n (pcs top) top := ⟨g2, g1, l16, n96, hp, t2⟩
  refine ⟨0, _, _, _, _, X, Y, Or.inl ⟨rfl, g4, _, rr_mu_lt (Nat.lt_succ_self _) hp, S, n, rn, N, g, uc, nd, cc, fu, ou, EC, top, uv_st pcs top (pcs top + 1), bas, uv_st oo top 0, slf, EE, ?_, ?_, rfl⟩⟩
  · exact rr_B_up hB0 (fun i hi => uv_sn (by omega)) (fun _ _ => rfl) (fun i hi => by rw [uv_sn (by omega), uv_sn (by omega)]) (fun i hi => by rw [uv_sn (by omega), uv_sn (by omega)]) n6 n7 (Nat.le_refl _) n11 n12 h5 h8
  · refine rr_F_smp hIA hF0 (p := pcs top + 1) (q := 0) hp (by rw [hS]; exact ss_eq_smp _ _) (by rw [hS, ss_smp_Q]) rfl rfl rfl rfl rfl rfl rfl rfl rfl rfl pk_us (fun c hc => pk_un (by omega)) rfl pk_us (fun c hc => pk_un (by omega)) rfl rfl rfl rfl rfl ?_ ?_ ?_ (Nat.le_refl _) (fun _ _ => ⟨rfl, rfl⟩)
    · intro i hi; exact ⟨rfl, rfl⟩
    · intro i hi; omega
    · intro r _ _; exact ⟨rfl, rfl⟩
theorem st_emit (hB : rr_B S n rn N g uc nd cc fu ou EC F A G B) (hF : rr_F S n rn nd cc EC top pcs bas oo slf EE F A G B) (hp : pcs top < n) (hk : (B 0) (pcs top) = 7) (ha : (B 1) (pcs top) = 1) : rr_step (97 * fu + rr_mu n pcs (top + 1)) F A G B := by
  have hB0 := hB
  have hF0 := hF
  obtain ⟨h1, ⟨mw, mf, md, mc, l1, l2, l3, l4, l5, l6, l7, l8, l9, l10, l11, l12, l13, l14, l15, l16⟩, h3, h4, h5, ⟨n1, n2, n3, n4, n5, n6, n7, n8, n9, n10, n11, n12⟩, h7, h8, h9⟩ := hB
  obtain ⟨g1, g2, g3, g4, g5, g6, g7, g8, g9, g10, g11⟩ := hF
  obtain ⟨t1, t2, t3, t4, ⟨y1, y2, y3, y4, y5⟩, ⟨x1, x2, x3⟩, t7, _⟩ := g11 top (Nat.le_refl _)
  rw [if_pos rfl, Nat.add_zero] at t7
  have hIA := ss_I_S h1
  have hI := hIA (pcs top) t1
  have hQ6 := ss_Q6 hI
  have hL8 := ss_L8 hI
  have hV88 := ss_V88 hI
  have n96 : n ≤ 96 := by omega
  have hYH : yp_H G B n (pcs top) top := ⟨g2, g1, l16, n96, hp, t2⟩
  obtain ⟨w1, _, w2, _⟩ := (h3.1 (pcs top) hp).2.2.2.2.2.2.2.1 hk
  obtain ⟨_, hq, _, hS⟩ := ss_V7 (h1.2 (pcs top) hp) hk
  have ho : oo top = 0 + 1 := by omega
  rw [ho] at y1 x2
  obtain ⟨a1, a2, a3⟩ := x2 0 (by omega)
  have hH : xs_H F A n (pcs top) (bas top + ss_L (S (pcs top)) + 0) := ⟨g6, l15, hp, n96, by rw [g7, w1, nI_add]; rfl⟩
  by_cases hou : ou < 24
  · refine ⟨0, (uv_st (uv_st F 40 (nI (pcs top + 1))) 33 (nI (ou + 1))), (uv_st (uv_st A 14 (upd (A 14) ou ((B 20) (top * 6 + 0)))) 15 (upd (A 15) ou ((B 21) (top * 6 + 0)))), _, _, fun post h => xs_10 hH (w2 ha) (by omega) n8 n10 (fun z => by omega) (fun _ => by rw [← a1, ← a2]; exact h),
      fun post h => yp_7 hYH hk y1 (by omega) rfl rfl (fun z0 _ => by rw [ha]; exact yp_emit (G := (uv_st (uv_st G 17 ((B 20) (top * 6 + 0))) 18 ((B 21) (top * 6 + 0)))) (B := (uv_st (uv_st B 16 (upd (B 16) top (nI (pcs top + 1)))) 18 (upd (B 18) top (nI 0)))) n9 n10 (fun z => by omega) (fun _ => h)),
      Or.inl ⟨rfl, g4, _, rr_mu_lt (Nat.lt_succ_self _) hp, S, n, rn, N, g, uc, nd, cc, fu, ou + 1, EC, top, uv_st pcs top (pcs top + 1), bas, uv_st oo top 0, slf, EE, ?_, ?_, rfl⟩⟩
    · exact rr_B_out (x := (B 20) (top * 6 + 0)) (y := (B 21) (top * 6 + 0)) hB0 hou (fun i hi => by rw [uv_sn (by omega), uv_sn (by omega)]) (fun i i1 i2 i3 => by rw [uv_sn (by omega), uv_sn (by omega)]) (fun i hi => by rw [uv_sn (by omega), uv_sn (by omega), uv_sn (by omega)]) (fun i hi => by rw [uv_sn (by omega), uv_sn (by omega), uv_sn (by omega), uv_sn (by omega)]) rfl rfl rfl rfl rfl rfl a3
    · refine rr_F_smp hIA hF0 (p := pcs top + 1) (q := 0) hp (by rw [hS]; exact ss_eq_smp _ _) (by rw [hS, ss_smp_Q]) rfl rfl rfl rfl rfl rfl rfl rfl rfl rfl pk_us (fun c hc => pk_un (by omega)) rfl pk_us (fun c hc => pk_un (by omega)) rfl rfl rfl rfl rfl ?_ ?_ ?_ (Nat.le_refl _) (fun _ _ => ⟨rfl, rfl⟩)
      · intro i hi; exact ⟨rfl, rfl⟩
      · intro i hi; omega
      · intro r _ _; exact ⟨rfl, rfl⟩
  · refine ⟨10, (uv_st F 40 (nI (pcs top + 1))), A, _, _, fun post h => xs_10 hH (w2 ha) (by omega) n8 n10 (fun _ => h) (fun z => absurd z hou),
      fun post h => yp_7 hYH hk y1 (by omega) rfl rfl (fun z0 _ => by rw [ha]; exact yp_emit (G := (uv_st (uv_st G 17 ((B 20) (top * 6 + 0))) 18 ((B 21) (top * 6 + 0)))) (B := (uv_st (uv_st B 16 (upd (B 16) top (nI (pcs top + 1)))) 18 (upd (B 18) top (nI 0)))) n9 n10 (fun _ => h) (fun z => absurd z hou)), Or.inr (Or.inr ⟨by decide, rfl, ?_⟩)⟩
    exact rr_err hB0 (fun i a b => uv_sn (by omega)) (fun _ _ => rfl) (fun i hi => by rw [uv_sn (by omega), uv_sn (by omega), uv_sn (by omega)]) (fun i hi => by rw [uv_sn (by omega), uv_sn (by omega)])
theorem rr_mu_lt2 {n top p f : Nat} {pcs : Nat → Nat} (hn : n ≤ 96) (h : 1 ≤ p) (hp : pcs top ≤ n) : 97 * f + rr_mu n (uv_st pcs top p) (top + 1) < 97 * (f + 1) + rr_mu n pcs (top + 1) := by
  have e : rr_mu n pcs (top + 1) = rr_mu n pcs top + (n + 1 - pcs top) := rfl
  rw [rr_mu_top, e]; omega
theorem ss_dcl_f (s : ss_T) (a : Int32) : ss_f (ss_dcl s a) = ss_f s := rfl
theorem st_5 (hB : rr_B S n rn N g uc nd cc fu ou EC F A G B) (hF : rr_F S n rn nd cc EC top pcs bas oo slf EE F A G B) (hp : pcs top < n) (hk : (B 0) (pcs top) = 5) : rr_step (97 * fu + rr_mu n pcs (top + 1)) F A G B := by
  have hB0 := hB
  have hF0 := hF
  obtain ⟨h1, ⟨mw, mf, md, mc, l1, l2, l3, l4, l5, l6, l7, l8, l9, l10, l11, l12, l13, l14, l15, l16⟩, h3, h4, h5, ⟨n1, n2, n3, n4, n5, n6, n7, n8, n9, n10, n11, n12⟩, h7, h8, h9⟩ := hB
  obtain ⟨g1, g2, g3, g4, g5, g6, g7, g8, g9, g10, g11⟩ := hF
  obtain ⟨t1, t2, t3, t4, ⟨y1, y2, y3, y4, y5⟩, ⟨x1, x2, x3⟩, t7, _⟩ := g11 top (Nat.le_refl _)
  rw [if_pos rfl, Nat.add_zero] at t7
  have hIA := ss_I_S h1
  have hI := hIA (pcs top) t1
  have hQ6 := ss_Q6 hI
  have hL8 := ss_L8 hI
  have hV88 := ss_V88 hI
  have n96 : n ≤ 96 := by omega
  have hYH : yp_H G B n (pcs top) top := ⟨g2, g1, l16, n96, hp, t2⟩
  have w1 := (h3.1 (pcs top) hp).2.2.2.2.2.1 hk
  obtain ⟨_, hq, hL, hS⟩ := ss_V5 (h1.2 (pcs top) hp) hk
  have ho : oo top = 0 + 1 := by omega
  rw [ho] at y1 x2
  obtain ⟨a1, a2, a3⟩ := x2 0 (by omega)
  obtain ⟨r0, er0⟩ := uv_sur ((F 41) + (A 1) (pcs top))
  have hH : xs_H F A n (pcs top) r0 := ⟨g6, l15, hp, n96, er0⟩
  have nd160 := h5.1
  have hCV := ss_I_cf hI
  have eL : ss_L (S (pcs top)) = ss_V (S (pcs top)) - ss_C (S (pcs top)) (ss_f (S (pcs top))) := rfl
  rcases Nat.eq_zero_or_pos fu with z | z
  · refine ⟨8, (uv_st F 40 (nI (pcs top + 1))), A, _, _, fun post h => xs_6 hH w1 n6 (by omega) (fun _ => h) (fun f ef => by omega), fun post h => yp_5 hYH hk y1 (by omega) n7 (by omega) n2 n3 (fun _ => h) (fun f ef => by omega), Or.inr (Or.inr ⟨by decide, rfl, ?_⟩)⟩
    exact rr_err hB0 (fun i a b => uv_sn (by omega)) (fun _ _ => rfl) (fun i hi => by rw [uv_sn (by omega), uv_sn (by omega), uv_sn (by omega)]) (fun i hi => by rw [uv_sn (by omega), uv_sn (by omega)])
  · obtain ⟨f, rfl⟩ : ∃ f, fu = f + 1 := ⟨fu - 1, by omega⟩
    have hr0 : rn (bas top + ss_L (S (pcs top)) + 0) = 0 := g10 _ (by omega)
    have H' := hp_new h5 (show nd < 160 by omega) hr0 (by omega)
    rw [← a1, ← a2] at H'
    refine ⟨0, (uv_st (uv_st F 40 (nI (pcs top + 1))) 36 (nI f)), A, (uv_st (uv_st (uv_st (uv_st G 17 ((B 20) (top * 6 + 0))) 18 ((B 21) (top * 6 + 0))) 12 (nI f)) 14 (nI (nd + 1))), (uv_st (uv_st (uv_st (uv_st (uv_st (uv_st (uv_st B 16 (upd (B 16) top (nI (pcs top + 1)))) 18 (upd (B 18) top (nI 0))) 12 (upd (B 12) nd ((B 1) (pcs top)))) 13 (upd (B 13) nd ((B 20) (top * 6 + 0)))) 14 (upd (B 14) nd ((B 21) (top * 6 + 0)))) 15 (upd (B 15) nd ((B 17) top))) 17 (upd (B 17) top ((G 14)))),
      fun post h => xs_6 hH w1 n6 (by omega) (fun z => by omega) (fun f' ef => by cases ef; exact h), fun post h => yp_5 hYH hk y1 (by omega) n7 (by omega) n2 n3 (fun z => by omega) (fun f' ef => by cases ef; exact h),
      Or.inl ⟨rfl, g4, _, rr_mu_lt2 n96 (Nat.succ_pos _) t1, S, n, uv_st rn (bas top + ss_L (S (pcs top)) + 0) (nd + 1), N, g, uc, nd + 1, cc, f, ou, EC, top, uv_st pcs top (pcs top + 1), bas, uv_st oo top 0, slf, uv_st EE top (uv_st (EE top) (ss_V (S (pcs top)) + 1) (nI nd)), ?_, ?_, rfl⟩⟩
    · refine rr_B_node (x := (B 1) (pcs top)) (y := (B 20) (top * 6 + 0)) (z := (B 21) (top * 6 + 0)) (e := (B 17) top) hB0 (fun i hi => by rw [uv_sn (by omega), uv_sn (by omega)]) (fun _ _ => rfl) (fun i hi => by rw [uv_sn (by omega), uv_sn (by omega), uv_sn (by omega), uv_sn (by omega)]) (fun i hi => by rw [uv_sn (by omega), uv_sn (by omega), uv_sn (by omega), uv_sn (by omega), uv_sn (by omega), uv_sn (by omega), uv_sn (by omega)]) rfl rfl (Nat.le_refl _) rfl rfl rfl rfl rfl a3 H'
    · have e2 : ss_V (S (pcs top + 1)) = ss_V (S (pcs top)) + 1 := by rw [hS]; rfl
      have e3 : ss_f (S (pcs top + 1)) = ss_f (S (pcs top)) := by rw [hS]; rfl
      have e4 : ∀ i, ss_C (S (pcs top + 1)) i = ss_C (S (pcs top)) i := fun i => by rw [hS]; rfl
      have e5 : ss_L (S (pcs top + 1)) = ss_L (S (pcs top)) + 1 := by
        show ss_V (S (pcs top + 1)) - ss_C (S (pcs top + 1)) (ss_f (S (pcs top + 1))) = _
        rw [e2, e3, e4]; omega
      have eE : ∀ j, j ≤ ss_V (S (pcs top)) → uv_st (EE top) (ss_V (S (pcs top)) + 1) (nI nd) j = EE top j := fun j hj => uv_sn (by omega)
      refine rr_F_up hIA hF0 (p := pcs top + 1) (q := 0) (E' := uv_st (EE top) (ss_V (S (pcs top)) + 1) (nI nd)) rfl rfl rfl rfl rfl rfl rfl rfl rfl rfl (fun c hc => ⟨pk_un (by omega), pk_un (by omega), pk_un (by omega), rfl⟩) (fun _ _ => ⟨rfl, rfl⟩) (fun _ _ => ⟨rfl, rfl⟩) (fun _ _ _ => ⟨rfl, rfl⟩) (fun r hr => uv_sn (by omega)) (by omega) (fun v hv => ⟨pk_un (by omega), pk_un (by omega)⟩) (Nat.le_refl _) (fun _ _ => ⟨rfl, rfl⟩) ?_ hp pk_us ?_ ?_ ?_ ?_
      · intro r hr
        rw [e5] at hr
        rw [uv_sn (by omega)]; exact g10 r (by omega)
      · unfold fr_Z
        rw [e3, e4]
        have eW : ss_W (S (pcs top + 1)) = ss_W (S (pcs top)) := by rw [hS]; rfl
        rw [eW]
        rcases t4 with z | ⟨z1, t, z2, z3, z4, z5⟩
        · exact Or.inl z
        · exact Or.inr ⟨z1, t, z2, z3, z4, fun j hj => by rw [eE j (by omega)]; exact z5 j hj⟩
      · refine ⟨pk_us, ?_, ?_, ⟨by rw [eE 0 (by omega)]; exact y4.1, fun j hj => ?_⟩, fun i i1 i2 => ?_⟩
        · rw [e3]
          have : ss_O (S (pcs top + 1)) = ss_O (S (pcs top)) := by rw [hS]; rfl
          rw [this]; exact y2
        · rw [e2]
          show upd ((B 17)) top ((G 14)) top = uv_st (EE top) (ss_V (S (pcs top)) + 1) (nI nd) (ss_V (S (pcs top)) + 1)
          rw [pk_us, uv_se]; exact n2
        · rw [e2] at hj
          have eN : ss_N (S (pcs top + 1)) = uv_st (ss_N (S (pcs top))) (ss_V (S (pcs top))) ((B 1) (pcs top)) := by rw [hS]; rfl
          rw [eN]
          by_cases c : j = ss_V (S (pcs top))
          · refine ⟨nd, by omega, by rw [c, uv_se], ?_, ?_⟩
            · show upd ((B 15)) nd ((B 17) top) nd = _
              rw [pk_us, c, eE _ (Nat.le_refl _)]; exact y3
            · show upd ((B 12)) nd ((B 1) (pcs top)) nd = _
              rw [pk_us, c, uv_se]
          · obtain ⟨v, v1, v2, v3, v4⟩ := y4.2 j (by omega)
            refine ⟨v, by omega, by rw [eE (j + 1) (by omega)]; exact v2, ?_, ?_⟩
            · show upd ((B 15)) nd ((B 17) top) v = _
              rw [pk_un (by omega), eE j (by omega)]; exact v3
            · show upd ((B 12)) nd ((B 1) (pcs top)) v = _
              rw [pk_un (by omega), uv_sn c]; exact v4
        · rw [e3] at i1 ⊢
          have eO : ss_O (S (pcs top + 1)) = ss_O (S (pcs top)) := by rw [hS]; rfl
          have eW : ss_W (S (pcs top + 1)) = ss_W (S (pcs top)) := by rw [hS]; rfl
          rw [eO] at i2
          have := (hI.2.2.2.2.2.2.1 i (by omega) i2).2.1
          rw [e4, eW, eE _ this]; exact y5 i i1 i2
      · refine ⟨fun l hl => ?_, fun i hi => by omega, fun i hi => ?_⟩
        · rw [e5] at hl
          rw [e3, e4]
          by_cases c : l = ss_L (S (pcs top))
          · subst c
            have : bas top + ss_L (S (pcs top)) = bas top + ss_L (S (pcs top)) + 0 := rfl
            rw [this, uv_se]
            refine ⟨by omega, ?_⟩
            rw [show ss_C (S (pcs top)) (ss_f (S (pcs top))) + ss_L (S (pcs top)) + 1 = ss_V (S (pcs top)) + 1 by omega, uv_se]; rfl
          · rw [uv_sn (by omega), eE _ (by omega)]; exact x1 l (by omega)
        · rw [e5, uv_sn (by omega)]; exact g10 _ (by omega)
      · rw [hS]
        show 0 = uv_st (ss_P (S (pcs top))) (ss_f (S (pcs top))) 0 (ss_f (S (pcs top)))
        rw [uv_se]
end
end
section
/-! places: what is closed, where the jumps lead -/
section
variable {k a : Nat → Int32} {S : Nat → ss_T} {n : Nat}
/-- the constructs below one that stays open stay open -/
theorem ss_below (h : ss_S k a n S) {p w i f : Nat} (hp : p ≤ n) (o : ss_on S p w i) (o' : ss_on S n w i) (h1 : 1 ≤ f) (hf : f < i) : ss_on S n (ss_W (S p) f) f := by
  have p1 := ss_preS h p hp i o.1 o.2.1
  have p2 := ss_preS h n (Nat.le_refl _) i o'.1 o'.2.1
  unfold ss_pre at p1 p2
  rw [o.2.2] at p1
  rw [o'.2.2] at p2
  have e1 := (p1.2.2.1 f (by omega)).2.1
  have e2 := (p2.2.2.1 f (by omega)).2.1
  exact ⟨h1, by have := o'.2.1; omega, by rw [← e2, e1]⟩
/-- a part begun by w and ended by q: what stands behind q -/
theorem ss_after (h : ss_S k a n S) {w q : Nat} (hq : q < n) (c : ss_cl k S w q) :
    w < q ∧ 1 ≤ ss_O (S q) ∧ ss_Q (S q) = 0 ∧ ss_O (S (w + 1)) = ss_O (S q) ∧
    (∀ i, i ≤ ss_O (S q) → ss_K (S (w + 1)) i = ss_K (S q) i ∧ ss_W (S (w + 1)) i = ss_W (S q) i ∧ ss_C (S (w + 1)) i = ss_C (S q) i) ∧
    (∀ j, j < ss_C (S q) (ss_O (S q)) → ss_N (S (w + 1)) j = ss_N (S q) j) ∧
    ((k q = 9 ∧ ss_K (S q) (ss_O (S q)) = 2 ∧ S (q + 1) = ss_els (S q) q) ∨ (k q = 10 ∧ ss_K (S q) (ss_O (S q)) = 5 ∧ S (q + 1) = ss_enf (S q)) ∨ (k q = 10 ∧ ss_K (S q) (ss_O (S q)) ≠ 5 ∧ S (q + 1) = ss_enb (S q))) := by
  obtain ⟨ck, o1, o2, o3⟩ := c
  have p1 := ss_preS h q (by omega) (ss_O (S q)) o1 o2
  unfold ss_pre at p1
  rw [o3] at p1
  obtain ⟨a1, a2, a3, a4, a5, a6⟩ := p1
  rcases ck with k9 | k10
  · obtain ⟨_, b1, b2, b3, b4⟩ := ss_V9 (h.2 q hq) k9
    exact ⟨a1, o1, b3, a2, a3, fun j hj => a5 j (by omega), Or.inl ⟨k9, b2, b4⟩⟩
  · obtain ⟨b1, b3, b4⟩ := ss_V10 (h.2 q hq) k10
    refine ⟨a1, o1, b3, a2, a3, fun j hj => a5 j (by omega), ?_⟩
    rcases b4 with z | z
    · exact Or.inr (Or.inl ⟨k10, z.1, z.2⟩)
    · exact Or.inr (Or.inr ⟨k10, z.1, z.2⟩)
end
section
variable {S : Nat → ss_T} {n : Nat} {rn N g : Nat → Nat} {uc nd cc fu ou : Nat} {EC : Nat → Nat → Int32} {top : Nat} {pcs bas oo : Nat → Nat} {slf : Nat → Int32} {EE : Nat → Nat → Int32} {F G : Nat → Int32} {A B : Nat → Nat → Int32}
/-- a construct of the running function, or opened by the word that runs, is closed in the program -/
theorem st_cl {p w i : Nat} (hB : rr_B S n rn N g uc nd cc fu ou EC F A G B) (hF : rr_F S n rn nd cc EC top pcs bas oo slf EE F A G B) (hp : p ≤ n) (o : ss_on S p w i) (hf : ss_f (S (pcs top)) < i) (hW : ss_W (S p) (ss_f (S (pcs top))) = ss_W (S (pcs top)) (ss_f (S (pcs top)))) :
    ∃ q, p ≤ q ∧ q < n ∧ ss_cl (B 0) S w q := by
  have h1 := hB.1
  have h9 := hB.2.2.2.2.2.2.2.2
  obtain ⟨t1, t2, t3, t4, _⟩ := hF.2.2.2.2.2.2.2.2.2.2 top (Nat.le_refl _)
  have n96 : n ≤ 96 := by
    obtain ⟨mw, mf, md, mc, l1, l2, l3, l4, _⟩ := hB.2.1
    omega
  refine ss_cl_ex h1 hp o (fun o' => ?_)
  rcases t4 with ⟨_, _, z⟩ | ⟨f0, t, z1, z2, z3, z4⟩
  · have := o'.1
    have := o'.2.1
    omega
  · obtain ⟨W, c1, c2, c3, c4, _⟩ := h9 t z1
    have hI := ss_I_S h1 (pcs top) t1
    have wl := (hI.2.2.2.2.2.2.1 (ss_f (S (pcs top))) (by omega) (ss_f_le _)).1
    have eW : W = ss_W (S (pcs top)) (ss_f (S (pcs top))) := (nI_eq (by omega) (by omega)).mp (c1.symm.trans z3)
    have := ss_below h1 hp o o' (show 1 ≤ ss_f (S (pcs top)) by omega) hf
    rw [hW, ← eW] at this
    exact c4 _ this
end
/-- the frame on top at another place of the same function, with fewer or equally many constructs: blocks from i + 1 on left, variables from v on gone -/
def ss_tr (s s' : ss_T) (i v : Nat) : Prop := ss_f s ≤ i ∧ i ≤ ss_O s ∧ ss_O s' = i ∧ ss_V s' = v ∧ v ≤ ss_V s ∧ ss_C s (ss_f s) ≤ v ∧ (∀ c, c ≤ i → ss_K s' c = ss_K s c ∧ ss_W s' c = ss_W s c ∧ ss_C s' c = ss_C s c) ∧ ∀ j, j < v → ss_N s' j = ss_N s j
theorem ss_tr_f {s s' : ss_T} {i v : Nat} (h : ss_tr s s' i v) : ss_f s' = ss_f s := by
  obtain ⟨h1, h2, h3, h4, h5, h6, h7, h8⟩ := h
  show ss_fx (ss_K s') (ss_O s') = ss_fx (ss_K s) (ss_O s)
  rw [h3, ss_fx_cg (fun c hc => (h7 c hc).1)]
  symm
  refine ss_fx_up h2 (fun c c1 c2 => ss_fx_no (i := ss_O s) ?_ c2)
  have : ss_f s = ss_fx (ss_K s) (ss_O s) := rfl
  omega
theorem ss_tr_L {s s' : ss_T} {i v : Nat} (h : ss_tr s s' i v) : ss_L s' = v - ss_C s (ss_f s) := by
  show ss_V s' - ss_C s' (ss_f s') = _
  rw [ss_tr_f h, h.2.2.2.1, (h.2.2.2.2.2.2.1 (ss_f s) h.1).2.2]
section
variable {S : Nat → ss_T} {n : Nat} {rn N g : Nat → Nat} {uc nd cc fu ou : Nat} {EC : Nat → Nat → Int32} {top : Nat} {pcs bas oo : Nat → Nat} {slf : Nat → Int32} {EE : Nat → Nat → Int32} {F F' G G' : Nat → Int32} {A A' B B' : Nat → Nat → Int32}
theorem rr_F_tr {p i v lim : Nat} (hIA : ∀ p, p ≤ n → ss_I p (S p)) (hF : rr_F S n rn nd cc EC top pcs bas oo slf EE F A G B) (hp : p ≤ n) (ht : ss_tr (S (pcs top)) (S p) i v) (hQ : ss_Q (S p) = 0) (hlim : lim = bas top + (v - ss_C (S (pcs top)) (ss_f (S (pcs top)))))
    (f1 : (G' 15) = (G 15)) (f2 : (F' 43) = (F 43)) (f3 : (F' 44) = (F 44)) (f4 : (G' 16) = (G 16)) (f5 : (F' 40) = nI p) (f6 : (F' 41) = (F 41)) (f7 : (F' 42) = (F 42))
    (f8 : (A' 24) = (A 24)) (f9 : (A' 25) = (A 25)) (f10 : (A' 26) = (A 26)) (f11 : (A' 22) = (A 22)) (f12 : (A' 23) = (A 23))
    (b0 : ∀ j, (12 ≤ j ∧ j ≤ 15) ∨ j = 10 → B' j = B j) (b1 : ∀ c, c < top → (B' 16) c = (B 16) c ∧ (B' 17) c = (B 17) c ∧ (B' 18) c = (B 18) c ∧ (B' 19) c = (B 19) c)
    (b2 : ∀ j, j < top * 10 + (i - ss_f (S (pcs top))) → (B' 22) j = (B 22) j ∧ (B' 23) j = (B 23) j) (b3 : (B' 20) = (B 20)) (b4 : (B' 21) = (B 21))
    (c1 : (B' 16) top = nI p) (c2 : (B' 17) top = EE top v) (c3 : (B' 18) top = nI 0) (c4 : (B' 19) top = nI (i - ss_f (S (pcs top)))) (en : (B' 15) = (B 15)) (em : (B' 12) = (B 12)) (ecl : (B' 10) = (B 10)) :
    rr_F S n (fun r => if lim ≤ r then 0 else rn r) nd cc EC top (uv_st pcs top p) bas (uv_st oo top 0) slf EE F' A' G' B' := by
  have hF0 := hF
  obtain ⟨g1, g2, g3, g4, g5, g6, g7, g8, g9, g10, g11⟩ := hF
  obtain ⟨t1, t2, t3, t4, ⟨y1, y2, y3, y4, y5⟩, ⟨x1, x2, x3⟩, t7, _⟩ := g11 top (Nat.le_refl _)
  have ef := ss_tr_f ht
  have eL := ss_tr_L ht
  obtain ⟨q1, q2, q3, q4, q5, q6, q7, q8⟩ := ht
  have hI := hIA (pcs top) t1
  have hCV := ss_I_cf hI
  have eLs : ss_L (S (pcs top)) = ss_V (S (pcs top)) - ss_C (S (pcs top)) (ss_f (S (pcs top))) := rfl
  obtain ⟨kf, wf, cf⟩ := q7 (ss_f (S (pcs top))) q1
  have eEE : uv_st EE top (EE top) = EE := by
    funext c
    by_cases e : c = top
    · rw [e, uv_se]
    · rw [uv_sn e]
  have R := rr_F_up (rn' := fun r => if lim ≤ r then 0 else rn r) (nd' := nd) (cc' := cc) (EC' := EC) (p := p) (q := 0) (E' := EE top) (F' := F') (A' := A') (G' := G') (B' := B') hIA hF0 f1 f2 f3 f4 f5 f6 f7 f8 f9 f10 b1 (fun j hj => b2 j (by omega)) (fun j hj => by rw [b3, b4]; exact ⟨rfl, rfl⟩) (fun r _ _ => by rw [f11, f12]; exact ⟨rfl, rfl⟩) (fun r hr => if_neg (by omega)) (Nat.le_refl _) (fun v' _ => by rw [en, em]; exact ⟨rfl, rfl⟩) (Nat.le_refl _) (fun t _ => by rw [ecl]; exact ⟨rfl, rfl⟩)
    (fun r hr => by
      show (if lim ≤ r then 0 else rn r) = 0
      rw [if_pos (by rw [eL] at hr; omega)]) hp c1
    (by
      unfold fr_Z
      rw [ef, wf, cf, ecl]
      exact t4)
    ⟨c3, by rw [q3, ef]; exact c4, by rw [q4]; exact c2, by rw [en, em]; exact ev_cg y4 (by rw [q4]; exact q5) (fun _ _ => rfl) (fun j hj => q8 j (by rw [q4] at hj; exact hj)), fun c e1 e2 => by
      rw [ef] at e1 ⊢
      rw [q3] at e2
      obtain ⟨_, w1, w2⟩ := q7 c e2
      obtain ⟨b5, b6⟩ := b2 (top * 10 + (c - ss_f (S (pcs top)) - 1)) (by omega)
      rw [b5, b6, w1, w2]; exact y5 c e1 (by omega)⟩
    ⟨fun l hl => by
      rw [eL] at hl
      rw [ef, cf]
      show (if lim ≤ bas top + l then 0 else rn (bas top + l)) ≠ 0 ∧ EE top _ = nI ((if lim ≤ bas top + l then 0 else rn (bas top + l)) - 1)
      rw [if_neg (by omega)]
      exact x1 l (by omega), fun j hj => by omega, fun j hj => by
      show (if lim ≤ bas top + ss_L (S p) + j then 0 else rn (bas top + ss_L (S p) + j)) = 0
      rw [eL, if_pos (by omega)]⟩ hQ.symm
  rw [eEE] at R
  exact R
end
end
section
/-! one step of both: the ends of blocks, jumps -/
section
variable {k a : Nat → Int32} {S : Nat → ss_T} {n : Nat}
theorem ss_Ci {p i : Nat} {s : ss_T} (h : ss_I p s) (hf : ss_f s < i) (hi : i ≤ ss_O s) : ss_C s (ss_f s) ≤ ss_C s i ∧ ss_C s i ≤ ss_V s := by
  refine ⟨?_, (h.2.2.2.2.2.2.1 i (by omega) hi).2.1⟩
  rcases Nat.eq_zero_or_pos (ss_f s) with z | z
  · rw [z, h.2.2.2.1]; omega
  · exact (h.2.2.2.2.2.2.2.1 (ss_f s) i z hf hi).2.1
theorem ss_enb_Q {s : ss_T} (ho : 1 ≤ ss_O s) (hk : ss_K s (ss_O s) ≠ 5) (hQ : ss_Q s = 0) : ss_Q (ss_enb s) = 0 := by
  show ss_P s (ss_fx (ss_K s) (ss_O s - 1)) = 0
  obtain ⟨o, ho'⟩ : ∃ o, ss_O s = o + 1 := ⟨ss_O s - 1, by omega⟩
  have e : ss_fx (ss_K s) (ss_O s - 1) = ss_f s := by
    show _ = ss_fx (ss_K s) (ss_O s)
    rw [ho'] at hk ⊢
    rw [Nat.add_sub_cancel, ss_fx_sn hk]
  rw [e]; exact hQ
/-- behind the end of construct i -/
theorem pl_end (h : ss_S k a n S) {p w i q : Nat} (hp : p ≤ n) (o : ss_on S p w i) (hf : ss_f (S p) < i) (h2 : ss_K (S p) i ≠ 2) (hq : q < n) (c : ss_cl k S w q) : ss_tr (S p) (S (q + 1)) (i - 1) (ss_C (S p) i) ∧ ss_Q (S (q + 1)) = 0 := by
  have hI := ss_I_S h p hp
  have h5 : ss_K (S p) i ≠ 5 := ss_fx_no (i := ss_O (S p)) hf o.2.1
  obtain ⟨b1, b2, b3, b4, b5, b6, b7⟩ := ss_after h hq c
  have p1 := ss_preS h p hp i o.1 o.2.1
  unfold ss_pre at p1
  rw [o.2.2] at p1
  obtain ⟨a1, a2, a3, a4, a5, a6⟩ := p1
  have ei : ss_O (S q) = i := by omega
  rw [ei] at b5 b6 b7
  have ek : ss_K (S q) i = ss_K (S p) i := by rw [← (b5 i (Nat.le_refl _)).1, (a3 i (Nat.le_refl _)).1]
  have ec : ss_C (S q) i = ss_C (S p) i := by rw [← (b5 i (Nat.le_refl _)).2.2, (a3 i (Nat.le_refl _)).2.2]
  rw [ek] at b7
  have eS : S (q + 1) = ss_enb (S q) := by
    rcases b7 with z | z | z
    · exact absurd z.2.1 h2
    · exact absurd z.2.1 h5
    · exact z.2.2
  obtain ⟨cc1, cc2⟩ := ss_Ci hI hf o.2.1
  refine ⟨⟨by omega, by have := o.2.1; omega, by rw [eS, ss_enb_O, ei], by rw [eS, ss_enb_V, ei, ec], cc2, cc1, fun c hc => ?_, fun j hj => ?_⟩, ?_⟩
  · rw [eS]
    obtain ⟨d1, d2, d3⟩ := a3 c (by omega)
    obtain ⟨e1, e2, e3⟩ := b5 c (by omega)
    exact ⟨e1.symm.trans d1, e2.symm.trans d2, e3.symm.trans d3⟩
  · rw [eS, ss_enb_N, ← b6 j (by rw [ec]; exact hj), a5 j (by omega)]
  · rw [eS]; exact ss_enb_Q b2 (by rw [ei, ek]; exact h5) b3
/-- behind the first word of loop i -/
theorem pl_loop (h : ss_S k a n S) {p w i : Nat} (hp : p ≤ n) (o : ss_on S p w i) (hf : ss_f (S p) < i) (h3 : ss_K (S p) i = 3) : k w = 8 ∧ a w = 3 ∧ w < p ∧ ss_tr (S p) (S (w + 1)) i (ss_C (S p) i) ∧ ss_Q (S (w + 1)) = 0 := by
  have hI := ss_I_S h p hp
  have p1 := ss_preS h p hp i o.1 o.2.1
  unfold ss_pre at p1
  rw [o.2.2] at p1
  obtain ⟨a1, a2, a3, a4, a5, a6⟩ := p1
  rw [h3, if_neg (by decide), Nat.add_zero] at a4 a5
  obtain ⟨cc1, cc2⟩ := ss_Ci hI hf o.2.1
  have tr : ss_tr (S p) (S (w + 1)) i (ss_C (S p) i) := ⟨by omega, o.2.1, a2, a4, cc2, cc1, a3, a5⟩
  rcases ss_kw h hp o with ⟨_, z, _⟩ | ⟨k8, e1, e2, e3, e4, _⟩ | ⟨_, z, _⟩
  · rw [h3] at z; exact absurd z (by decide)
  · refine ⟨k8, by rw [← e1]; exact h3, a1, tr, ?_⟩
    have ha5 : a w ≠ 5 := by rw [← e1, h3]; decide
    rw [e3]
    show uv_st (uv_st (ss_P (S w)) (ss_f (S w)) 0) (ss_O (S w) + 1) 0 (ss_f (ss_blk (S w) w (a w))) = 0
    have := ss_f_le (S w)
    rw [ss_blk_f ha5, uv_sn (by omega), uv_se]
  · rw [h3] at z; exact absurd z (by decide)
/-- loops are the blocks whose word says so -/
theorem pl_arg (h : ss_S k a n S) {p w i : Nat} (hp : p ≤ n) (o : ss_on S p w i) (hf : ss_f (S p) < i) : (a w = 3 ↔ ss_K (S p) i = 3) := by
  have h5 : ss_K (S p) i ≠ 5 := ss_fx_no (i := ss_O (S p)) hf o.2.1
  rcases ss_kw h hp o with ⟨_, z, _⟩ | ⟨_, e, _⟩ | ⟨_, e, e2, _⟩
  · exact absurd z h5
  · rw [e]
  · rw [e, e2]; decide
end
section
variable {S : Nat → ss_T} {n : Nat} {rn N g : Nat → Nat} {uc nd cc fu ou : Nat} {EC : Nat → Nat → Int32} {top : Nat} {pcs bas oo : Nat → Nat} {slf : Nat → Int32} {EE : Nat → Nat → Int32} {F G : Nat → Int32} {A B : Nat → Nat → Int32}
theorem st_10b (hB : rr_B S n rn N g uc nd cc fu ou EC F A G B) (hF : rr_F S n rn nd cc EC top pcs bas oo slf EE F A G B) (hp : pcs top < n) (hk : (B 0) (pcs top) = 10) (h5' : ss_K (S (pcs top)) (ss_O (S (pcs top))) ≠ 5) : rr_step (97 * fu + rr_mu n pcs (top + 1)) F A G B := by
  have hB0 := hB
  have hF0 := hF
  obtain ⟨h1, ⟨mw, mf, md, mc, l1, l2, l3, l4, l5, l6, l7, l8, l9, l10, l11, l12, l13, l14, l15, l16⟩, h3, h4, h5, ⟨n1, n2, n3, n4, n5, n6, n7, n8, n9, n10, n11, n12⟩, h7, h8, h9⟩ := hB
  obtain ⟨g1, g2, g3, g4, g5, g6, g7, g8, g9, g10, g11⟩ := hF
  obtain ⟨t1, t2, t3, t4, ⟨y1, y2, y3, y4, y5⟩, ⟨x1, x2, x3⟩, t7, _⟩ := g11 top (Nat.le_refl _)
  rw [if_pos rfl, Nat.add_zero] at t7
  have hIA := ss_I_S h1
  have hI := hIA (pcs top) t1
  have hQ6 := ss_Q6 hI
  have hL8 := ss_L8 hI
  have hV88 := ss_V88 hI
  have n96 : n ≤ 96 := by omega
  have hYH : yp_H G B n (pcs top) top := ⟨g2, g1, l16, n96, hp, t2⟩
  obtain ⟨_, w19, w18⟩ := (h3.1 (pcs top) hp).2.2.2.2.2.2.2.2.2.2 hk
  obtain ⟨hO, hq, hS⟩ := ss_V10 (h1.2 (pcs top) hp) hk
  have hS' : S (pcs top + 1) = ss_enb (S (pcs top)) := by
    rcases hS with z | z
    · exact absurd z.1 h5'
    · exact z.2
  obtain ⟨r0, er0⟩ := uv_sur ((F 41) + (A 1) (pcs top))
  have hH : xs_H F A n (pcs top) r0 := ⟨g6, l15, hp, n96, er0⟩
  have hfl : ss_f (S (pcs top)) < ss_O (S (pcs top)) := by
    have h1' := ss_f_le (S (pcs top))
    have : ss_f (S (pcs top)) ≠ ss_O (S (pcs top)) := fun z => by
      rcases xc_f5 (S (pcs top)) with y | y
      · omega
      · rw [z] at y; exact h5' y
    omega
  have hO10 := hI.1
  obtain ⟨j, hj⟩ : ∃ j, ss_O (S (pcs top)) - ss_f (S (pcs top)) = j + 1 := ⟨ss_O (S (pcs top)) - ss_f (S (pcs top)) - 1, by omega⟩
  obtain ⟨bw, be⟩ := y5 _ hfl (Nat.le_refl _)
  have ej : ss_O (S (pcs top)) - ss_f (S (pcs top)) - 1 = j := by omega
  rw [ej] at bw be
  have on : ss_on S (pcs top) (ss_W (S (pcs top)) (ss_O (S (pcs top)))) (ss_O (S (pcs top))) := ⟨hO, Nat.le_refl _, rfl⟩
  have wl := (hI.2.2.2.2.2.2.1 _ hO (Nat.le_refl _)).1
  have ca := pl_arg h1 t1 on hfl
  obtain ⟨cc1, cc2⟩ := ss_Ci hI hfl (Nat.le_refl _)
  have ho0 : oo top = 0 := by omega
  rw [hj] at y2
  have eL : ss_L (S (pcs top)) = ss_V (S (pcs top)) - ss_C (S (pcs top)) (ss_f (S (pcs top))) := rfl
  obtain ⟨lim, elim⟩ : ∃ lim, lim = bas top + (ss_C (S (pcs top)) (ss_O (S (pcs top))) - ss_C (S (pcs top)) (ss_f (S (pcs top)))) := ⟨_, rfl⟩
  by_cases h3' : ss_K (S (pcs top)) (ss_O (S (pcs top))) = 3
  · obtain ⟨c1, c2, c3⟩ := w19 h3'
    obtain ⟨p1, p2, p3, p4, p5⟩ := pl_loop h1 t1 on hfl h3'
    obtain ⟨g', h', ur', uk', uv', H', X⟩ := xs_19 hH c1 n6 (by omega) (lim := lim) (by rw [g7, c2, nI_add, elim]) (by omega) h5
    rw [c3] at X
    rcases Nat.eq_zero_or_pos fu with z | z
    · refine ⟨8, _, _, _, _, fun post h => X post (fun _ => h) (fun f ef => by omega), fun post h => yp_10l hYH hk y2 (by omega) bw (by omega) p2 n7 (by omega) (fun _ => h) (fun f ef => by omega), Or.inr (Or.inr ⟨by decide, rfl, S, n, (fun r => if lim ≤ r then 0 else rn r), N, g', uc, nd, cc, fu, ou, EC, ?_⟩)⟩
      exact rr_B_up hB0 (fun i hi => by rw [uv_sn (by omega), uv_sn (by omega)]) (fun i hi => by rw [uv_sn (by omega), uv_sn (by omega), uv_sn (by omega)]) (fun i hi => uv_sn (by omega)) (fun i hi => by rw [uv_sn (by omega), uv_sn (by omega), uv_sn (by omega)]) n6 n7 (Nat.le_refl _) n11 n12 H' h8
    · obtain ⟨f, rfl⟩ : ∃ f, fu = f + 1 := ⟨fu - 1, by omega⟩
      refine ⟨0, (uv_st (uv_st (uv_st F 39 (h')) 40 (nI (ss_W (S (pcs top)) (ss_O (S (pcs top))) + 1))) 36 (nI f)), (uv_st (uv_st (uv_st A 18 (ur')) 19 (uk')) 20 (uv')), (uv_st G 12 (nI f)), (uv_st (uv_st (uv_st (uv_st (uv_st B 16 (upd (upd (B 16) top (nI (pcs top + 1))) top (nI (ss_W (S (pcs top)) (ss_O (S (pcs top))) + 1)))) 17 (upd (B 17) top ((B 23) (top * 10 + j)))) 22 (upd (B 22) (top * 10 + j) (nI (ss_W (S (pcs top)) (ss_O (S (pcs top))))))) 23 (upd (B 23) (top * 10 + j) (upd (B 17) top ((B 23) (top * 10 + j)) top))) 19 (upd (upd (B 19) top (nI j)) top (nI (j + 1)))),
        fun post h => X post (fun z => by omega) (fun f' ef => by cases ef; exact h), fun post h => yp_10l hYH hk y2 (by omega) bw (by omega) p2 n7 (by omega) (fun z => by omega) (fun f' ef => by cases ef; exact h), Or.inl ⟨rfl, g4, _, rr_mu_lt2 n96 (Nat.succ_pos _) t1, S, n, (fun r => if lim ≤ r then 0 else rn r), N, g', uc, nd, cc, f, ou, EC, top, uv_st pcs top (ss_W (S (pcs top)) (ss_O (S (pcs top))) + 1), bas, uv_st oo top 0, slf, EE, ?_, ?_, rfl⟩⟩
      · exact rr_B_up hB0 (fun i hi => by rw [uv_sn (by omega), uv_sn (by omega), uv_sn (by omega)]) (fun i hi => by rw [uv_sn (by omega), uv_sn (by omega), uv_sn (by omega)]) (fun i hi => uv_sn (by omega)) (fun i hi => by rw [uv_sn (by omega), uv_sn (by omega), uv_sn (by omega), uv_sn (by omega), uv_sn (by omega)]) rfl rfl (by omega) n11 n12 H' h8
      · refine rr_F_tr hIA hF0 (by omega) p4 p5 elim rfl rfl rfl rfl rfl rfl rfl rfl rfl rfl rfl rfl (fun j' hj' => by rw [uv_sn (by omega), uv_sn (by omega), uv_sn (by omega), uv_sn (by omega), uv_sn (by omega)]) (fun c hc => ⟨(pk_un (by omega)).trans (pk_un (by omega)), pk_un (by omega), rfl, (pk_un (by omega)).trans (pk_un (by omega))⟩) (fun j' hj' => ?_) rfl rfl pk_us ?_ ?_ ?_ rfl rfl rfl
        · show upd ((B 22)) (top * 10 + j) _ j' = _ ∧ upd ((B 23)) (top * 10 + j) _ j' = _
          by_cases e : j' = top * 10 + j
          · rw [e, pk_us, pk_us, pk_us]; exact ⟨bw.symm, rfl⟩
          · rw [pk_un e, pk_un e]; exact ⟨rfl, rfl⟩
        · show upd ((B 17)) top ((B 23) (top * 10 + j)) top = _
          rw [pk_us]; exact be
        · show (B 18) top = _
          rw [y1, ho0]
        · show upd (upd ((B 19)) top (nI j)) top (nI (j + 1)) top = _
          rw [pk_us, hj]
  · obtain ⟨c1, c2⟩ := w18 h5' h3'
    have ha3 : (B 1) (ss_W (S (pcs top)) (ss_O (S (pcs top)))) ≠ 3 := fun z => h3' (ca.mp z)
    obtain ⟨g', h', ur', uk', uv', H', X⟩ := xs_18 hH c1 (lim := lim) (by rw [g7, c2, nI_add, elim]) (by omega) h5
    have tr : ss_tr (S (pcs top)) (S (pcs top + 1)) (ss_O (S (pcs top)) - 1) (ss_C (S (pcs top)) (ss_O (S (pcs top)))) := by
      rw [hS']
      exact ⟨by omega, by omega, rfl, rfl, cc2, cc1, fun _ _ => ⟨rfl, rfl, rfl⟩, fun _ _ => rfl⟩
    have hQ0 : ss_Q (S (pcs top + 1)) = 0 := by rw [hS']; exact ss_enb_Q hO h5' hq
    refine ⟨0, _, _, _, _, X, fun post h => yp_10b hYH hk y2 (by omega) bw (by omega) ha3 h, Or.inl ⟨rfl, g4, _, rr_mu_lt (Nat.lt_succ_self _) hp, S, n, (fun r => if lim ≤ r then 0 else rn r), N, g', uc, nd, cc, fu, ou, EC, top, uv_st pcs top (pcs top + 1), bas, uv_st oo top 0, slf, EE, ?_, ?_, rfl⟩⟩
    · exact rr_B_up hB0 (fun i hi => by rw [uv_sn (by omega), uv_sn (by omega)]) (fun i hi => by rw [uv_sn (by omega), uv_sn (by omega), uv_sn (by omega)]) (fun _ _ => rfl) (fun i hi => by rw [uv_sn (by omega), uv_sn (by omega), uv_sn (by omega)]) n6 n7 (Nat.le_refl _) n11 n12 H' h8
    · refine rr_F_tr hIA hF0 hp tr hQ0 elim rfl rfl rfl rfl rfl rfl rfl rfl rfl rfl rfl rfl (fun j' hj' => by rw [uv_sn (by omega), uv_sn (by omega), uv_sn (by omega)]) (fun c hc => ⟨pk_un (by omega), pk_un (by omega), rfl, pk_un (by omega)⟩) (fun _ _ => ⟨rfl, rfl⟩) rfl rfl pk_us ?_ ?_ ?_ rfl rfl rfl
      · show upd ((B 17)) top ((B 23) (top * 10 + j)) top = _
        rw [pk_us]; exact be
      · show (B 18) top = _
        rw [y1, ho0]
      · show upd ((B 19)) top (nI j) top = _
        rw [pk_us]; exact congrArg nI (by omega)
end
end
section
/-! one step of both: otherwise, leave, again -/
theorem uv_f2 {B B3 : Nat → Nat → Int32} {x y : Nat → Int32} (h : ∀ j, j ≠ 17 → j ≠ 19 → B3 j = B j) (h1 : B3 17 = x) (h2 : B3 19 = y) : B3 = uv_st (uv_st B 17 x) 19 y := by
  funext j
  by_cases e : j = 19
  · rw [e, uv_se, h2]
  · rw [uv_sn e]
    by_cases e' : j = 17
    · rw [e', uv_se, h1]
    · rw [uv_sn e', h j e' e]
section
variable {S : Nat → ss_T} {n : Nat} {rn N g : Nat → Nat} {uc nd cc fu ou : Nat} {EC : Nat → Nat → Int32} {top : Nat} {pcs bas oo : Nat → Nat} {slf : Nat → Int32} {EE : Nat → Nat → Int32} {F G : Nat → Int32} {A B : Nat → Nat → Int32}
theorem st_9 (hB : rr_B S n rn N g uc nd cc fu ou EC F A G B) (hF : rr_F S n rn nd cc EC top pcs bas oo slf EE F A G B) (hp : pcs top < n) (hk : (B 0) (pcs top) = 9) : rr_step (97 * fu + rr_mu n pcs (top + 1)) F A G B := by
  have hB0 := hB
  have hF0 := hF
  obtain ⟨h1, ⟨mw, mf, md, mc, l1, l2, l3, l4, l5, l6, l7, l8, l9, l10, l11, l12, l13, l14, l15, l16⟩, h3, h4, h5, ⟨n1, n2, n3, n4, n5, n6, n7, n8, n9, n10, n11, n12⟩, h7, h8, h9⟩ := hB
  obtain ⟨g1, g2, g3, g4, g5, g6, g7, g8, g9, g10, g11⟩ := hF
  obtain ⟨t1, t2, t3, t4, ⟨y1, y2, y3, y4, y5⟩, ⟨x1, x2, x3⟩, t7, _⟩ := g11 top (Nat.le_refl _)
  rw [if_pos rfl, Nat.add_zero] at t7
  have hIA := ss_I_S h1
  have hI := hIA (pcs top) t1
  have hQ6 := ss_Q6 hI
  have hL8 := ss_L8 hI
  have hV88 := ss_V88 hI
  have n96 : n ≤ 96 := by omega
  have hYH : yp_H G B n (pcs top) top := ⟨g2, g1, l16, n96, hp, t2⟩
  obtain ⟨c1, c2⟩ := (h3.1 (pcs top) hp).2.2.2.2.2.2.2.2.2.1 hk
  obtain ⟨_, hO, hk2, hq0, hS⟩ := ss_V9 (h1.2 (pcs top) hp) hk
  have h5' : ss_K (S (pcs top)) (ss_O (S (pcs top))) ≠ 5 := by rw [hk2]; decide
  obtain ⟨r0, er0⟩ := uv_sur ((F 41) + (A 1) (pcs top))
  have hH : xs_H F A n (pcs top) r0 := ⟨g6, l15, hp, n96, er0⟩
  have hfl : ss_f (S (pcs top)) < ss_O (S (pcs top)) := by
    have h1' := ss_f_le (S (pcs top))
    have : ss_f (S (pcs top)) ≠ ss_O (S (pcs top)) := fun z => by
      rcases xc_f5 (S (pcs top)) with y | y
      · omega
      · rw [z] at y; exact h5' y
    omega
  have hO10 := hI.1
  obtain ⟨j, hj⟩ : ∃ j, ss_O (S (pcs top)) - ss_f (S (pcs top)) = j + 1 := ⟨ss_O (S (pcs top)) - ss_f (S (pcs top)) - 1, by omega⟩
  obtain ⟨bw, be⟩ := y5 _ hfl (Nat.le_refl _)
  have ej : ss_O (S (pcs top)) - ss_f (S (pcs top)) - 1 = j := by omega
  rw [ej] at bw be
  have eO : ss_O (S (pcs top + 1)) = ss_O (S (pcs top)) := by rw [hS]; rfl
  have eW : ss_W (S (pcs top + 1)) = uv_st (ss_W (S (pcs top))) (ss_O (S (pcs top))) (pcs top) := by rw [hS]; rfl
  have eK : ss_K (S (pcs top + 1)) = uv_st (ss_K (S (pcs top))) (ss_O (S (pcs top))) 4 := by rw [hS]; rfl
  have eC : ss_C (S (pcs top + 1)) = ss_C (S (pcs top)) := by rw [hS]; rfl
  have eN : ss_N (S (pcs top + 1)) = ss_N (S (pcs top)) := by rw [hS]; rfl
  have ef : ss_f (S (pcs top + 1)) = ss_f (S (pcs top)) := by rw [hS]; exact ss_els_f hO h5'
  have on : ss_on S (pcs top + 1) (pcs top) (ss_O (S (pcs top))) := ⟨hO, by omega, by rw [eW, uv_se]⟩
  obtain ⟨q, q1, q2, q3⟩ := st_cl hB0 hF0 hp on hfl (by rw [eW, uv_sn (by omega)])
  obtain ⟨tr', hQ0⟩ := pl_end h1 hp on (by rw [ef]; exact hfl) (by rw [eK, uv_se]; decide) q2 q3
  obtain ⟨cc1, cc2⟩ := ss_Ci hI hfl (Nat.le_refl _)
  have tr : ss_tr (S (pcs top)) (S (q + 1)) (ss_O (S (pcs top)) - 1) (ss_C (S (pcs top)) (ss_O (S (pcs top)))) := by
    obtain ⟨z1, z2, z3, z4, z5, z6, z7, z8⟩ := tr'
    rw [eC] at z4 z8
    refine ⟨by omega, by omega, z3, z4, cc2, cc1, fun c hc => ?_, fun j hj => by rw [z8 j hj, eN]⟩
    obtain ⟨d1, d2, d3⟩ := z7 c hc
    rw [d1, d2, d3, eK, eW, eC, uv_sn (by omega), uv_sn (by omega)]; exact ⟨rfl, rfl, rfl⟩
  have ho0 : oo top = 0 := by omega
  rw [hj] at y2
  have eL : ss_L (S (pcs top)) = ss_V (S (pcs top)) - ss_C (S (pcs top)) (ss_f (S (pcs top))) := rfl
  obtain ⟨lim, elim⟩ : ∃ lim, lim = bas top + (ss_C (S (pcs top)) (ss_O (S (pcs top))) - ss_C (S (pcs top)) (ss_f (S (pcs top)))) := ⟨_, rfl⟩
  obtain ⟨g', h', ur', uk', uv', H', X⟩ := xs_17 hH c1 (lim := lim) (by rw [g7, c2, nI_add, elim]) (by omega) h5
  rw [h3.2.1 (pcs top) q q2 q3] at X
  refine ⟨0, _, _, _, _, X, fun post h => yp_9 hYH hk y2 (by omega) h1 q2 q3 h, Or.inl ⟨rfl, g4, _, rr_mu_lt (show pcs top < q + 1 by omega) q2, S, n, (fun r => if lim ≤ r then 0 else rn r), N, g', uc, nd, cc, fu, ou, EC, top, uv_st pcs top (q + 1), bas, uv_st oo top 0, slf, EE, ?_, ?_, rfl⟩⟩
  · exact rr_B_up hB0 (fun i hi => by rw [uv_sn (by omega), uv_sn (by omega)]) (fun i hi => by rw [uv_sn (by omega), uv_sn (by omega), uv_sn (by omega)]) (fun _ _ => rfl) (fun i hi => by rw [uv_sn (by omega), uv_sn (by omega), uv_sn (by omega)]) n6 n7 (Nat.le_refl _) n11 n12 H' h8
  · refine rr_F_tr hIA hF0 q2 tr hQ0 elim rfl rfl rfl rfl rfl rfl rfl rfl rfl rfl rfl rfl (fun j' hj' => by rw [uv_sn (by omega), uv_sn (by omega), uv_sn (by omega)]) (fun c hc => ⟨(pk_un (by omega)).trans (pk_un (by omega)), pk_un (by omega), rfl, pk_un (by omega)⟩) (fun _ _ => ⟨rfl, rfl⟩) rfl rfl pk_us ?_ ?_ ?_ rfl rfl rfl
    · show upd ((B 17)) top ((B 23) (top * 10 + j)) top = _
      rw [pk_us]; exact be
    · show (B 18) top = _
      rw [y1, ho0]
    · show upd ((B 19)) top (nI j) top = _
      rw [pk_us]; exact congrArg nI (by omega)
/-- a jump out of blocks: leave -/
theorem st_jump (hB : rr_B S n rn N g uc nd cc fu ou EC F A G B) (hF : rr_F S n rn nd cc EC top pcs bas oo slf EE F A G B) (hp : pcs top < n) (hk : (B 0) (pcs top) = 7) (ha : (B 1) (pcs top) = 3 ∨ (B 1) (pcs top) = 4)
    (htrue : ¬ ((B 20) (top * 6 + 0) ≠ 1 ∧ (B 21) (top * 6 + 0) = 0)) : rr_step (97 * fu + rr_mu n pcs (top + 1)) F A G B := by
  have hB0 := hB
  have hF0 := hF
  obtain ⟨h1, ⟨mw, mf, md, mc, l1, l2, l3, l4, l5, l6, l7, l8, l9, l10, l11, l12, l13, l14, l15, l16⟩, h3, h4, h5, ⟨n1, n2, n3, n4, n5, n6, n7, n8, n9, n10, n11, n12⟩, h7, h8, h9⟩ := hB
  obtain ⟨g1, g2, g3, g4, g5, g6, g7, g8, g9, g10, g11⟩ := hF
  obtain ⟨t1, t2, t3, t4, ⟨y1, y2, y3, y4, y5⟩, ⟨x1, x2, x3⟩, t7, _⟩ := g11 top (Nat.le_refl _)
  rw [if_pos rfl, Nat.add_zero] at t7
  have hIA := ss_I_S h1
  have hI := hIA (pcs top) t1
  have hQ6 := ss_Q6 hI
  have hL8 := ss_L8 hI
  have hV88 := ss_V88 hI
  have n96 : n ≤ 96 := by omega
  have hYH : yp_H G B n (pcs top) top := ⟨g2, g1, l16, n96, hp, t2⟩
  obtain ⟨w1, _, _, _, w2⟩ := (h3.1 (pcs top) hp).2.2.2.2.2.2.2.1 hk
  obtain ⟨c1, c2, c3⟩ := w2 ha
  obtain ⟨_, hq, hlx, hS⟩ := ss_V7 (h1.2 (pcs top) hp) hk
  have hl := hlx ha
  obtain ⟨l3, lf, lno⟩ := ss_lx_at (ss_K (S (pcs top))) (ss_O (S (pcs top))) hl
  have lO := ss_lx_le (ss_K (S (pcs top))) (ss_O (S (pcs top)))
  have lf' : ss_f (S (pcs top)) < ss_lx (ss_K (S (pcs top))) (ss_O (S (pcs top))) := lf
  have ho : oo top = 0 + 1 := by omega
  rw [ho] at y1 x2
  obtain ⟨a1, a2, a3⟩ := x2 0 (by omega)
  have hH : xs_H F A n (pcs top) (bas top + ss_L (S (pcs top)) + 0) := ⟨g6, l15, hp, n96, by rw [g7, w1, nI_add]; rfl⟩
  have hO10 := hI.1
  have hXt : ¬ ((A 22) (bas top + ss_L (S (pcs top)) + 0) = 0 ∧ (A 23) (bas top + ss_L (S (pcs top)) + 0) = 0) := by
    rw [← a1, ← a2]
    intro z
    exact htrue ⟨by rw [z.1]; decide, z.2⟩
  have on : ss_on S (pcs top) (ss_W (S (pcs top)) (ss_lx (ss_K (S (pcs top))) (ss_O (S (pcs top))))) (ss_lx (ss_K (S (pcs top))) (ss_O (S (pcs top)))) := ⟨by omega, lO, rfl⟩
  have wl := (hI.2.2.2.2.2.2.1 _ (show 1 ≤ ss_lx (ss_K (S (pcs top))) (ss_O (S (pcs top))) by omega) lO).1
  obtain ⟨cc1, cc2⟩ := ss_Ci hI lf' lO
  have eL : ss_L (S (pcs top)) = ss_V (S (pcs top)) - ss_C (S (pcs top)) (ss_f (S (pcs top))) := rfl
  obtain ⟨lim, elim⟩ : ∃ lim, lim = bas top + (ss_C (S (pcs top)) (ss_lx (ss_K (S (pcs top))) (ss_O (S (pcs top)))) - ss_C (S (pcs top)) (ss_f (S (pcs top)))) := ⟨_, rfl⟩
  have hL : (F 41) + (A 2) (pcs top) = nI lim := by rw [g7, c2, nI_add, elim]
  have hW96 : ∀ i, ss_f (S (pcs top)) < i → i ≤ ss_O (S (pcs top)) → ss_W (S (pcs top)) i < 96 := fun i i1 i2 => by have := (hI.2.2.2.2.2.2.1 i (by omega) i2).1; omega
  have hargs : ∀ i, ss_f (S (pcs top)) < i → i ≤ ss_O (S (pcs top)) → ((B 1) (ss_W (S (pcs top)) i) = 3 ↔ ss_K (S (pcs top)) i = 3) := fun i i1 i2 => pl_arg h1 t1 ⟨by omega, i2, rfl⟩ i1
  rcases ha with ha | ha
  · rw [ha, if_pos rfl] at c1
    obtain ⟨q, q1, q2, q3⟩ := st_cl hB0 hF0 t1 on lf' rfl
    obtain ⟨tr, hQ0⟩ := pl_end h1 t1 on lf' (by rw [l3]; decide) q2 q3
    obtain ⟨g', h', ur', uk', uv', H', X⟩ := xs_12 hH c1 (by omega) hXt c3 (by omega) hL (by omega) h5
    rw [h3.2.1 _ q q2 q3] at X
    refine ⟨0, _, _, (uv_st (uv_st G 17 ((B 20) (top * 6 + 0))) 18 ((B 21) (top * 6 + 0))), (uv_st (uv_st (uv_st (uv_st (uv_st B 16 (upd (B 16) top (nI (pcs top + 1)))) 18 (upd (B 18) top (nI 0))) 17 (upd (B 17) top (EE top (ss_C (S (pcs top)) (ss_lx (ss_K (S (pcs top))) (ss_O (S (pcs top)))))))) 19 (upd (B 19) top (nI (ss_lx (ss_K (S (pcs top))) (ss_O (S (pcs top))) - ss_f (S (pcs top)) - 1)))) 16 (upd (upd (B 16) top (nI (pcs top + 1))) top (nI (q + 1)))), X,
      fun post h => yp_7 hYH hk y1 (by omega) rfl rfl (fun z0 hz => ?_), Or.inl ⟨rfl, g4, _, rr_mu_lt (show pcs top < q + 1 by omega) q2, S, n, (fun r => if lim ≤ r then 0 else rn r), N, g', uc, nd, cc, fu, ou, EC, top, uv_st pcs top (q + 1), bas, uv_st oo top 0, slf, EE, ?_, ?_, rfl⟩⟩
    · rw [ha]
      refine yp_jump (G := (uv_st (uv_st G 17 ((B 20) (top * 6 + 0))) 18 ((B 21) (top * 6 + 0)))) (B := (uv_st (uv_st B 16 (upd (B 16) top (nI (pcs top + 1)))) 18 (upd (B 18) top (nI 0)))) (s := S (pcs top)) (E := EE top) (lx := ss_lx (ss_K (S (pcs top))) (ss_O (S (pcs top)))) (fun z => htrue (hz.mp z)) (Or.inl rfl) g1 hO10 lf' lO hW96 l3 lno y2 y5 hargs (fun B3 e0 e1 e2 => ?_)
      have e := uv_f2 e0 e1 e2
      subst e
      exact yp_lv (S := S) (G := (uv_st (uv_st G 17 ((B 20) (top * 6 + 0))) 18 ((B 21) (top * 6 + 0)))) (B := (uv_st (uv_st (uv_st (uv_st B 16 (upd (B 16) top (nI (pcs top + 1)))) 18 (upd (B 18) top (nI 0))) 17 (upd (B 17) top (EE top (ss_C (S (pcs top)) (ss_lx (ss_K (S (pcs top))) (ss_O (S (pcs top)))))))) 19 (upd (B 19) top (nI (ss_lx (ss_K (S (pcs top))) (ss_O (S (pcs top))) - ss_f (S (pcs top)) - 1))))) g1 h1 l16 n96 q2 q3 h
    · exact rr_B_up hB0 (fun i hi => by rw [uv_sn (by omega), uv_sn (by omega)]) (fun i hi => by rw [uv_sn (by omega), uv_sn (by omega), uv_sn (by omega)]) (fun i hi => by rw [uv_sn (by omega), uv_sn (by omega)]) (fun i hi => by rw [uv_sn (by omega), uv_sn (by omega), uv_sn (by omega), uv_sn (by omega), uv_sn (by omega)]) n6 n7 (Nat.le_refl _) n11 n12 H' h8
    · refine rr_F_tr hIA hF0 q2 tr hQ0 elim rfl rfl rfl rfl rfl rfl rfl rfl rfl rfl rfl rfl (fun j' hj' => by rw [uv_sn (by omega), uv_sn (by omega), uv_sn (by omega), uv_sn (by omega), uv_sn (by omega)]) (fun c hc => ⟨(pk_un (by omega)).trans (pk_un (by omega)), pk_un (by omega), pk_un (by omega), pk_un (by omega)⟩) (fun _ _ => ⟨rfl, rfl⟩) rfl rfl pk_us pk_us pk_us ?_ rfl rfl rfl
      show upd ((B 19)) top _ top = _
      rw [pk_us]; exact congrArg nI (by omega)
  · rw [ha, if_neg (by decide)] at c1
    obtain ⟨p1, p2, p3, p4, p5⟩ := pl_loop h1 t1 on lf' l3
    obtain ⟨g', h', ur', uk', uv', H', X⟩ := xs_13 hH c1 (by omega) hXt c3 n6 (by omega) hL (by omega) h5
    obtain ⟨j, hj⟩ : ∃ j, ss_lx (ss_K (S (pcs top))) (ss_O (S (pcs top))) - ss_f (S (pcs top)) = j + 1 := ⟨ss_lx (ss_K (S (pcs top))) (ss_O (S (pcs top))) - ss_f (S (pcs top)) - 1, by omega⟩
    have ej : ss_lx (ss_K (S (pcs top))) (ss_O (S (pcs top))) - ss_f (S (pcs top)) - 1 = j := by omega
    obtain ⟨bw, be⟩ := y5 _ lf' lO
    rw [ej] at bw be
    have Yj : ∀ post : SY → Prop, wY_doAct_173 post (nI top) 4 (nI (ss_W (S (pcs top)) (ss_lx (ss_K (S (pcs top))) (ss_O (S (pcs top)))))) (G 0) (G 1) (G 2) (G 3) (G 4) (G 5) (G 6) (G 7) (G 8) (G 9) (G 10) (G 11) (G 12) (G 13) (G 14) (G 15) (G 16) ((B 20) (top * 6 + 0)) ((B 21) (top * 6 + 0)) (B 0) (B 1) (B 2) (B 3) (B 4) (B 5) (B 6) (B 7) (B 8) (B 9) (B 10) (B 11) (B 12) (B 13) (B 14) (B 15) (upd (B 16) top (nI (pcs top + 1))) (upd (B 17) top (EE top (ss_C (S (pcs top)) (ss_lx (ss_K (S (pcs top))) (ss_O (S (pcs top))))))) (upd (B 18) top (nI 0)) (upd (B 19) top (nI j)) (B 20) (B 21) (B 22) (B 23) → wpY_step post (uv_Y G B) := by
      intro post h
      refine yp_7 hYH hk y1 (by omega) rfl rfl (fun z0 hz => ?_)
      rw [ha]
      refine yp_jump (G := (uv_st (uv_st G 17 ((B 20) (top * 6 + 0))) 18 ((B 21) (top * 6 + 0)))) (B := (uv_st (uv_st B 16 (upd (B 16) top (nI (pcs top + 1)))) 18 (upd (B 18) top (nI 0)))) (s := S (pcs top)) (E := EE top) (lx := ss_lx (ss_K (S (pcs top))) (ss_O (S (pcs top)))) (fun z => htrue (hz.mp z)) (Or.inr rfl) g1 hO10 lf' lO hW96 l3 lno y2 y5 hargs (fun B3 e0 e1 e2 => ?_)
      rw [ej] at e2
      have e := uv_f2 e0 e1 e2
      subst e
      exact h
    rcases Nat.eq_zero_or_pos fu with z | z
    · refine ⟨8, _, _, (uv_st (uv_st (uv_st G 17 ((B 20) (top * 6 + 0))) 18 ((B 21) (top * 6 + 0))) 16 (8)), (uv_st (uv_st (uv_st (uv_st B 16 (upd (B 16) top (nI (pcs top + 1)))) 18 (upd (B 18) top (nI 0))) 17 (upd (B 17) top (EE top (ss_C (S (pcs top)) (ss_lx (ss_K (S (pcs top))) (ss_O (S (pcs top)))))))) 19 (upd (B 19) top (nI j))), fun post h => X post (fun _ => h) (fun f ef => by omega),
        fun post h => Yj post (yp_ag (G := (uv_st (uv_st G 17 ((B 20) (top * 6 + 0))) 18 ((B 21) (top * 6 + 0)))) (B := (uv_st (uv_st (uv_st (uv_st B 16 (upd (B 16) top (nI (pcs top + 1)))) 18 (upd (B 18) top (nI 0))) 17 (upd (B 17) top (EE top (ss_C (S (pcs top)) (ss_lx (ss_K (S (pcs top))) (ss_O (S (pcs top)))))))) 19 (upd (B 19) top (nI j)))) (j := j) g1 (by omega) n7 (by omega) pk_us (by omega) (fun _ => h) (fun f ef => by omega)),
        Or.inr (Or.inr ⟨by decide, rfl, S, n, (fun r => if lim ≤ r then 0 else rn r), N, g', uc, nd, cc, fu, ou, EC, ?_⟩)⟩
      exact rr_B_up hB0 (fun i hi => by rw [uv_sn (by omega), uv_sn (by omega)]) (fun i hi => by rw [uv_sn (by omega), uv_sn (by omega), uv_sn (by omega)]) (fun i hi => by rw [uv_sn (by omega), uv_sn (by omega), uv_sn (by omega)]) (fun i hi => by rw [uv_sn (by omega), uv_sn (by omega), uv_sn (by omega), uv_sn (by omega)]) n6 n7 (Nat.le_refl _) n11 n12 H' h8
    · obtain ⟨f, rfl⟩ : ∃ f, fu = f + 1 := ⟨fu - 1, by omega⟩
      refine ⟨0, (uv_st (uv_st (uv_st F 39 (h')) 40 (nI (ss_W (S (pcs top)) (ss_lx (ss_K (S (pcs top))) (ss_O (S (pcs top)))) + 1))) 36 (nI f)), (uv_st (uv_st (uv_st A 18 (ur')) 19 (uk')) 20 (uv')), (uv_st (uv_st (uv_st G 17 ((B 20) (top * 6 + 0))) 18 ((B 21) (top * 6 + 0))) 12 (nI f)),
        (uv_st (uv_st (uv_st (uv_st (uv_st (uv_st B 18 (upd (B 18) top (nI 0))) 17 (upd (B 17) top (EE top (ss_C (S (pcs top)) (ss_lx (ss_K (S (pcs top))) (ss_O (S (pcs top)))))))) 22 (upd (B 22) (top * 10 + j) (nI (ss_W (S (pcs top)) (ss_lx (ss_K (S (pcs top))) (ss_O (S (pcs top)))))))) 23 (upd (B 23) (top * 10 + j) (upd (B 17) top (EE top (ss_C (S (pcs top)) (ss_lx (ss_K (S (pcs top))) (ss_O (S (pcs top)))))) top))) 19 (upd (upd (B 19) top (nI j)) top (nI (j + 1)))) 16 (upd (upd (B 16) top (nI (pcs top + 1))) top (nI (ss_W (S (pcs top)) (ss_lx (ss_K (S (pcs top))) (ss_O (S (pcs top)))) + 1)))),
        fun post h => X post (fun z => by omega) (fun f' ef => by cases ef; exact h),
        fun post h => Yj post (yp_ag (G := (uv_st (uv_st G 17 ((B 20) (top * 6 + 0))) 18 ((B 21) (top * 6 + 0)))) (B := (uv_st (uv_st (uv_st (uv_st B 16 (upd (B 16) top (nI (pcs top + 1)))) 18 (upd (B 18) top (nI 0))) 17 (upd (B 17) top (EE top (ss_C (S (pcs top)) (ss_lx (ss_K (S (pcs top))) (ss_O (S (pcs top)))))))) 19 (upd (B 19) top (nI j)))) (j := j) g1 (by omega) n7 (by omega) pk_us (by omega) (fun z => by omega) (fun f' ef => by cases ef; exact h)),
        Or.inl ⟨rfl, g4, _, rr_mu_lt2 n96 (Nat.succ_pos _) t1, S, n, (fun r => if lim ≤ r then 0 else rn r), N, g', uc, nd, cc, f, ou, EC, top, uv_st pcs top (ss_W (S (pcs top)) (ss_lx (ss_K (S (pcs top))) (ss_O (S (pcs top)))) + 1), bas, uv_st oo top 0, slf, EE, ?_, ?_, rfl⟩⟩
      · exact rr_B_up hB0 (fun i hi => by rw [uv_sn (by omega), uv_sn (by omega), uv_sn (by omega)]) (fun i hi => by rw [uv_sn (by omega), uv_sn (by omega), uv_sn (by omega)]) (fun i hi => by rw [uv_sn (by omega), uv_sn (by omega), uv_sn (by omega)]) (fun i hi => by rw [uv_sn (by omega), uv_sn (by omega), uv_sn (by omega), uv_sn (by omega), uv_sn (by omega), uv_sn (by omega)]) rfl rfl (by omega) n11 n12 H' h8
      · refine rr_F_tr hIA hF0 (by omega) p4 p5 elim rfl rfl rfl rfl rfl rfl rfl rfl rfl rfl rfl rfl (fun j' hj' => by rw [uv_sn (by omega), uv_sn (by omega), uv_sn (by omega), uv_sn (by omega), uv_sn (by omega), uv_sn (by omega)]) (fun c hc => ⟨(pk_un (by omega)).trans (pk_un (by omega)), pk_un (by omega), pk_un (by omega), (pk_un (by omega)).trans (pk_un (by omega))⟩) (fun j' hj' => ?_) rfl rfl pk_us pk_us pk_us ?_ rfl rfl rfl
        · show upd ((B 22)) (top * 10 + j) _ j' = _ ∧ upd ((B 23)) (top * 10 + j) _ j' = _
          by_cases e : j' = top * 10 + j
          · rw [e, pk_us, pk_us, pk_us]; exact ⟨bw.symm, be.symm⟩
          · rw [pk_un e, pk_un e]; exact ⟨rfl, rfl⟩
        · show upd (upd ((B 19)) top (nI j)) top (nI (j + 1)) top = _
          rw [pk_us, hj]
end
end
section
/-! one step of both: blocks are entered -/
section
variable {S : Nat → ss_T} {n : Nat} {rn N g : Nat → Nat} {uc nd cc fu ou : Nat} {EC : Nat → Nat → Int32} {top : Nat} {pcs bas oo : Nat → Nat} {slf : Nat → Int32} {EE : Nat → Nat → Int32} {F F' G G' : Nat → Int32} {A B B' : Nat → Nat → Int32}
/-- a place with one construct more -/
def ss_en (s s' : ss_T) (w : Nat) : Prop := ss_O s' = ss_O s + 1 ∧ ss_f s' = ss_f s ∧ ss_V s' = ss_V s ∧ ss_C s' (ss_O s + 1) = ss_V s ∧ ss_W s' (ss_O s + 1) = w ∧ ss_Q s' = 0 ∧ (∀ c, c ≤ ss_O s → ss_W s' c = ss_W s c ∧ ss_C s' c = ss_C s c) ∧ ∀ j, j < ss_V s → ss_N s' j = ss_N s j
theorem rr_F_en {p w j : Nat} (hIA : ∀ p, p ≤ n → ss_I p (S p)) (hF : rr_F S n rn nd cc EC top pcs bas oo slf EE F A G B) (hp : p ≤ n) (ht : ss_en (S (pcs top)) (S p) w) (hj : j = ss_O (S (pcs top)) - ss_f (S (pcs top)))
    (f1 : (G' 15) = (G 15)) (f2 : (F' 43) = (F 43)) (f3 : (F' 44) = (F 44)) (f4 : (G' 16) = (G 16)) (f5 : (F' 40) = nI p) (f6 : (F' 41) = (F 41)) (f7 : (F' 42) = (F 42))
    (b1 : ∀ c, c < top → (B' 16) c = (B 16) c ∧ (B' 17) c = (B 17) c ∧ (B' 18) c = (B 18) c ∧ (B' 19) c = (B 19) c)
    (b2 : (B' 22) = upd (B 22) (top * 10 + j) (nI w)) (b2' : (B' 23) = upd (B 23) (top * 10 + j) ((B 17) top)) (b3 : (B' 20) = (B 20)) (b4 : (B' 21) = (B 21))
    (c1 : (B' 16) top = nI p) (c2 : (B' 17) top = (B 17) top) (c3 : (B' 18) top = nI 0) (c4 : (B' 19) top = nI (j + 1)) (en : (B' 15) = (B 15)) (em : (B' 12) = (B 12)) (ecl : (B' 10) = (B 10)) :
    rr_F S n rn nd cc EC top (uv_st pcs top p) bas (uv_st oo top 0) slf EE F' A G' B' := by
  have hF0 := hF
  obtain ⟨g1, g2, g3, g4, g5, g6, g7, g8, g9, g10, g11⟩ := hF
  obtain ⟨t1, t2, t3, t4, ⟨y1, y2, y3, y4, y5⟩, ⟨x1, x2, x3⟩, t7, _⟩ := g11 top (Nat.le_refl _)
  obtain ⟨q1, q2, q3, q4, q5, q6, q7, q8⟩ := ht
  have hI := hIA (pcs top) t1
  have hfl := ss_f_le (S (pcs top))
  obtain ⟨wf, cf⟩ := q7 (ss_f (S (pcs top))) hfl
  have eL : ss_L (S p) = ss_L (S (pcs top)) := by
    show ss_V (S p) - ss_C (S p) (ss_f (S p)) = _
    rw [q3, q2, cf]; rfl
  have eEE : uv_st EE top (EE top) = EE := by
    funext c
    by_cases e : c = top
    · rw [e, uv_se]
    · rw [uv_sn e]
  have R := rr_F_up (rn' := rn) (nd' := nd) (cc' := cc) (EC' := EC) (p := p) (q := 0) (E' := EE top) (F' := F') (A' := A) (G' := G') (B' := B') hIA hF0 f1 f2 f3 f4 f5 f6 f7 rfl rfl rfl b1 (fun i hi => by rw [b2, b2']; exact ⟨pk_un (by omega), pk_un (by omega)⟩) (fun i hi => by rw [b3, b4]; exact ⟨rfl, rfl⟩) (fun r _ _ => ⟨rfl, rfl⟩) (fun r hr => rfl) (Nat.le_refl _) (fun v' _ => by rw [en, em]; exact ⟨rfl, rfl⟩) (Nat.le_refl _) (fun t _ => by rw [ecl]; exact ⟨rfl, rfl⟩)
    (fun r hr => by rw [eL] at hr; exact g10 r hr) hp c1
    (by
      unfold fr_Z
      rw [q2, wf, cf, ecl]
      exact t4)
    ⟨c3, by rw [q1, q2, c4]; exact congrArg nI (by omega), by rw [q3, c2]; exact y3, by rw [en, em]; exact ev_cg y4 (by rw [q3]; exact Nat.le_refl _) (fun _ _ => rfl) (fun i hi => q8 i (by rw [q3] at hi; exact hi)), fun c e1 e2 => by
      rw [q2] at e1 ⊢
      rw [q1] at e2
      rw [b2, b2']
      by_cases e : c = ss_O (S (pcs top)) + 1
      · rw [e, q4, q5, show ss_O (S (pcs top)) + 1 - ss_f (S (pcs top)) - 1 = j by omega, pk_us, pk_us]; exact ⟨rfl, y3⟩
      · obtain ⟨w1, w2⟩ := q7 c (by omega)
        rw [pk_un (by omega), pk_un (by omega), w1, w2]; exact y5 c e1 (by omega)⟩
    ⟨fun l hl => by
      rw [eL] at hl
      rw [q2, cf]
      exact x1 l hl, fun i hi => by omega, fun i hi => by
      rw [eL]; exact g10 _ (by omega)⟩ q6.symm
  rw [eEE] at R
  exact R
theorem ss_en_blk {s : ss_T} {p : Nat} {a : Int32} (ha : a ≠ 5) : ss_en s (ss_blk s p a) p := by
  have hf := ss_f_le s
  refine ⟨rfl, ss_blk_f ha, rfl, ?_, ?_, ?_, fun c hc => ?_, fun _ _ => rfl⟩
  · rw [ss_blk_C, uv_se]
  · rw [ss_blk_W, uv_se]
  · show uv_st (uv_st (ss_P s) (ss_f s) 0) (ss_O s + 1) 0 (ss_f (ss_blk s p a)) = 0
    rw [ss_blk_f ha, uv_sn (by omega), uv_se]
  · rw [ss_blk_W, ss_blk_C, uv_sn (by omega), uv_sn (by omega)]; exact ⟨rfl, rfl⟩
theorem st_8 (hB : rr_B S n rn N g uc nd cc fu ou EC F A G B) (hF : rr_F S n rn nd cc EC top pcs bas oo slf EE F A G B) (hp : pcs top < n) (hk : (B 0) (pcs top) = 8) : rr_step (97 * fu + rr_mu n pcs (top + 1)) F A G B := by
  have hB0 := hB
  have hF0 := hF
  obtain ⟨h1, ⟨mw, mf, md, mc, l1, l2, l3, l4, l5, l6, l7, l8, l9, l10, l11, l12, l13, l14, l15, l16⟩, h3, h4, h5, ⟨n1, n2, n3, n4, n5, n6, n7, n8, n9, n10, n11, n12⟩, h7, h8, h9⟩ := hB
  obtain ⟨g1, g2, g3, g4, g5, g6, g7, g8, g9, g10, g11⟩ := hF
  obtain ⟨t1, t2, t3, t4, ⟨y1, y2, y3, y4, y5⟩, ⟨x1, x2, x3⟩, t7, _⟩ := g11 top (Nat.le_refl _)
  rw [if_pos rfl, Nat.add_zero] at t7
  have hIA := ss_I_S h1
  have hI := hIA (pcs top) t1
  have hQ6 := ss_Q6 hI
  have hL8 := ss_L8 hI
  have hV88 := ss_V88 hI
  have n96 : n ≤ 96 := by omega
  have hYH : yp_H G B n (pcs top) top := ⟨g2, g1, l16, n96, hp, t2⟩
  obtain ⟨w1, w14, w15, w16⟩ := (h3.1 (pcs top) hp).2.2.2.2.2.2.2.2.1 hk
  obtain ⟨ha, hq, hO, hS⟩ := ss_V8 (h1.2 (pcs top) hp) hk
  have hH : xs_H F A n (pcs top) (bas top + ss_L (S (pcs top)) + 0) := ⟨g6, l15, hp, n96, by rw [g7, w1, nI_add]; rfl⟩
  have hfl := ss_f_le (S (pcs top))
  have ha5 : (B 1) (pcs top) ≠ 5 := by rcases ha with z | z | z <;> rw [z] <;> decide
  have en : ss_en (S (pcs top)) (S (pcs top + 1)) (pcs top) := by rw [hS]; exact ss_en_blk ha5
  rcases ha with ha | ha | ha
  · rw [ha, if_neg (by decide)] at hq
    have ho0 : oo top = 0 := by omega
    refine ⟨0, _, _, _, _, fun post h => xs_14 hH (w14 ha) h, fun post h => yp_8a (j := ss_O (S (pcs top)) - ss_f (S (pcs top))) hYH hk ha y2 (by omega) h, Or.inl ⟨rfl, g4, _, rr_mu_lt (Nat.lt_succ_self _) hp, S, n, rn, N, g, uc, nd, cc, fu, ou, EC, top, uv_st pcs top (pcs top + 1), bas, uv_st oo top 0, slf, EE, ?_, ?_, rfl⟩⟩
    · exact rr_B_up hB0 (fun i hi => uv_sn (by omega)) (fun _ _ => rfl) (fun _ _ => rfl) (fun i hi => by rw [uv_sn (by omega), uv_sn (by omega), uv_sn (by omega), uv_sn (by omega)]) n6 n7 (Nat.le_refl _) n11 n12 h5 h8
    · exact rr_F_en hIA hF0 hp en rfl rfl rfl rfl rfl rfl rfl rfl (fun c hc => ⟨pk_un (by omega), rfl, rfl, pk_un (by omega)⟩) rfl rfl rfl rfl pk_us rfl (by show (B 18) top = _; rw [y1, ho0]) pk_us rfl rfl rfl
  · rw [ha, if_pos rfl] at hq
    have ho : oo top = 0 + 1 := by omega
    rw [ho] at y1 x2
    obtain ⟨a1, a2, a3⟩ := x2 0 (by omega)
    have eO : ss_O (S (pcs top + 1)) = ss_O (S (pcs top)) + 1 := by rw [hS]; rfl
    have eW : ss_W (S (pcs top + 1)) = uv_st (ss_W (S (pcs top))) (ss_O (S (pcs top)) + 1) (pcs top) := by rw [hS]; rfl
    have on : ss_on S (pcs top + 1) (pcs top) (ss_O (S (pcs top)) + 1) := ⟨by omega, by omega, by rw [eW, uv_se]⟩
    obtain ⟨q, q1, q2, q3⟩ := st_cl hB0 hF0 hp on (by omega) (by rw [eW, uv_sn (by omega)])
    have kk : (B 20) (top * 6 + 0) = 1 ∨ (B 20) (top * 6 + 0) = 0 := by
      rcases a3 with z | z
      · exact Or.inr z
      · exact Or.inl z.1
    by_cases ht : (B 20) (top * 6 + 0) = 1 ∨ (B 21) (top * 6 + 0) ≠ 0
    · have hX : ¬ ((A 22) (bas top + ss_L (S (pcs top)) + 0) = 0 ∧ (A 23) (bas top + ss_L (S (pcs top)) + 0) = 0) := by
        rw [← a1, ← a2]
        intro z
        rcases ht with y | y
        · rw [z.1] at y; exact absurd y (by decide)
        · exact y z.2
      refine ⟨0, (uv_st F 40 (nI (pcs top + 1))), A, (uv_st (uv_st G 17 ((B 20) (top * 6 + 0))) 18 ((B 21) (top * 6 + 0))), (uv_st (uv_st (uv_st (uv_st (uv_st B 16 (upd (B 16) top (nI (pcs top + 1)))) 18 (upd (B 18) top (nI 0))) 22 (upd (B 22) (top * 10 + (ss_O (S (pcs top)) - ss_f (S (pcs top)))) (nI (pcs top)))) 23 (upd (B 23) (top * 10 + (ss_O (S (pcs top)) - ss_f (S (pcs top)))) ((B 17) top))) 19 (upd (B 19) top (nI (ss_O (S (pcs top)) - ss_f (S (pcs top)) + 1)))),
        fun post h => xs_15 hH (w15 ha) (by omega) (fun x y => absurd ⟨x, y⟩ hX) (fun _ => h), fun post h => yp_8b hYH hk ha y1 (by omega) y2 (by omega) h1 q2 q3 (fun _ => h) (fun z => absurd ht z) (fun z => absurd ht z), Or.inl ⟨rfl, g4, _, rr_mu_lt (Nat.lt_succ_self _) hp, S, n, rn, N, g, uc, nd, cc, fu, ou, EC, top, uv_st pcs top (pcs top + 1), bas, uv_st oo top 0, slf, EE, ?_, ?_, rfl⟩⟩
      · exact rr_B_up hB0 (fun i hi => uv_sn (by omega)) (fun _ _ => rfl) (fun i hi => by rw [uv_sn (by omega), uv_sn (by omega)]) (fun i hi => by rw [uv_sn (by omega), uv_sn (by omega), uv_sn (by omega), uv_sn (by omega), uv_sn (by omega)]) n6 n7 (Nat.le_refl _) n11 n12 h5 h8
      · exact rr_F_en hIA hF0 hp en rfl rfl rfl rfl rfl rfl rfl rfl (fun c hc => ⟨pk_un (by omega), rfl, pk_un (by omega), pk_un (by omega)⟩) rfl rfl rfl rfl pk_us rfl pk_us pk_us rfl rfl rfl
    · have v0 : (B 21) (top * 6 + 0) = 0 := by
        by_cases y : (B 21) (top * 6 + 0) = 0
        · exact y
        · exact absurd (Or.inr y) ht
      have k0 : (B 20) (top * 6 + 0) = 0 := kk.resolve_left (fun y => ht (Or.inl y))
      have hX : (A 22) (bas top + ss_L (S (pcs top)) + 0) = 0 ∧ (A 23) (bas top + ss_L (S (pcs top)) + 0) = 0 := by
        rw [← a1, ← a2]; exact ⟨k0, v0⟩
      have etg := h3.2.1 (pcs top) q q2 q3
      obtain ⟨b1, b2, b3, b4, b5, b6, b7⟩ := ss_after h1 q2 q3
      have eQ : ss_O (S q) = ss_O (S (pcs top)) + 1 := by omega
      rw [eQ] at b5 b6 b7
      have eK : ss_K (S (pcs top + 1)) = uv_st (ss_K (S (pcs top))) (ss_O (S (pcs top)) + 1) ((B 1) (pcs top)) := by rw [hS]; rfl
      have eC : ss_C (S (pcs top + 1)) = uv_st (ss_C (S (pcs top))) (ss_O (S (pcs top)) + 1) (ss_V (S (pcs top))) := by rw [hS]; rfl
      have eN : ss_N (S (pcs top + 1)) = ss_N (S (pcs top)) := by rw [hS]; rfl
      have kq : ss_K (S q) (ss_O (S (pcs top)) + 1) = 2 := by
        rw [← (b5 _ (Nat.le_refl _)).1, eK, uv_se, ha]
      have cq : ss_C (S q) (ss_O (S (pcs top)) + 1) = ss_V (S (pcs top)) := by
        rw [← (b5 _ (Nat.le_refl _)).2.2, eC, uv_se]
      have low : ∀ c, c ≤ ss_O (S (pcs top)) → ss_K (S q) c = ss_K (S (pcs top)) c ∧ ss_W (S q) c = ss_W (S (pcs top)) c ∧ ss_C (S q) c = ss_C (S (pcs top)) c := by
        intro c hc
        obtain ⟨d1, d2, d3⟩ := b5 c (by omega)
        rw [← d1, ← d2, ← d3, eK, eW, eC, uv_sn (by omega), uv_sn (by omega), uv_sn (by omega)]; exact ⟨rfl, rfl, rfl⟩
      have nq : ∀ i, i < ss_V (S (pcs top)) → ss_N (S q) i = ss_N (S (pcs top)) i := fun i hi => by
        rw [← b6 i (by rw [cq]; exact hi), eN]
      have fq : ss_f (S q) = ss_f (S (pcs top)) := by
        show ss_fx (ss_K (S q)) (ss_O (S q)) = _
        rw [eQ, ss_fx_sn (by rw [kq]; decide)]
        exact ss_fx_cg (fun c hc => (low c hc).1)
      rcases b7 with ⟨k9, _, eS⟩ | ⟨_, z, _⟩ | ⟨k10, _, eS⟩
      · have en2 : ss_en (S (pcs top)) (S (q + 1)) q := by
          rw [eS]
          refine ⟨by rw [ss_els_O, eQ], ?_, by rw [ss_els_V, eQ, cq], ?_, ?_, ?_, fun c hc => ?_, fun i hi => nq i hi⟩
          · rw [ss_els_f (by omega) (by rw [eQ, kq]; decide), fq]
          · rw [ss_els_C]; exact cq
          · rw [ss_els_W, eQ, uv_se]
          · show ss_P (S q) (ss_f (ss_els (S q) q)) = 0
            rw [ss_els_f (by omega) (by rw [eQ, kq]; decide)]; exact b3
          · rw [ss_els_W, ss_els_C, eQ, uv_sn (by omega)]; exact (low c hc).2
        refine ⟨0, (uv_st F 40 ((A 3) (pcs top))), A, (uv_st (uv_st G 17 ((B 20) (top * 6 + 0))) 18 ((B 21) (top * 6 + 0))), (uv_st (uv_st (uv_st (uv_st (uv_st B 16 (upd (upd (B 16) top (nI (pcs top + 1))) top (nI (q + 1)))) 18 (upd (B 18) top (nI 0))) 22 (upd (B 22) (top * 10 + (ss_O (S (pcs top)) - ss_f (S (pcs top)))) (nI q))) 23 (upd (B 23) (top * 10 + (ss_O (S (pcs top)) - ss_f (S (pcs top)))) ((B 17) top))) 19 (upd (B 19) top (nI (ss_O (S (pcs top)) - ss_f (S (pcs top)) + 1)))),
          fun post h => xs_15 hH (w15 ha) (by omega) (fun _ _ => h) (fun z => absurd hX z), fun post h => yp_8b hYH hk ha y1 (by omega) y2 (by omega) h1 q2 q3 (fun z => absurd z ht) (fun _ _ => h) (fun _ z => by rw [k9] at z; exact absurd z (by decide)), Or.inl ⟨rfl, g4, _, rr_mu_lt (show pcs top < q + 1 by omega) q2, S, n, rn, N, g, uc, nd, cc, fu, ou, EC, top, uv_st pcs top (q + 1), bas, uv_st oo top 0, slf, EE, ?_, ?_, rfl⟩⟩
        · exact rr_B_up hB0 (fun i hi => uv_sn (by omega)) (fun _ _ => rfl) (fun i hi => by rw [uv_sn (by omega), uv_sn (by omega)]) (fun i hi => by rw [uv_sn (by omega), uv_sn (by omega), uv_sn (by omega), uv_sn (by omega), uv_sn (by omega)]) n6 n7 (Nat.le_refl _) n11 n12 h5 h8
        · exact rr_F_en hIA hF0 q2 en2 rfl rfl rfl rfl rfl etg rfl rfl (fun c hc => ⟨(pk_un (by omega)).trans (pk_un (by omega)), rfl, pk_un (by omega), pk_un (by omega)⟩) rfl rfl rfl rfl pk_us rfl pk_us pk_us rfl rfl rfl
      · rw [kq] at z; exact absurd z (by decide)
      · have tr : ss_tr (S (pcs top)) (S (q + 1)) (ss_O (S (pcs top))) (ss_V (S (pcs top))) := by
          rw [eS]
          exact ⟨hfl, Nat.le_refl _, by rw [ss_enb_O, eQ]; rfl, by rw [ss_enb_V, eQ, cq], Nat.le_refl _, ss_I_cf hI, fun c hc => low c hc, fun i hi => nq i hi⟩
        have hQ0 : ss_Q (S (q + 1)) = 0 := by rw [eS]; exact ss_enb_Q (by omega) (by rw [eQ, kq]; decide) b3
        have ern : (fun r => if bas top + (ss_V (S (pcs top)) - ss_C (S (pcs top)) (ss_f (S (pcs top)))) ≤ r then 0 else rn r) = rn := by
          funext r
          by_cases c : bas top + (ss_V (S (pcs top)) - ss_C (S (pcs top)) (ss_f (S (pcs top)))) ≤ r
          · rw [if_pos c]; exact (g10 r c).symm
          · rw [if_neg c]
        refine ⟨0, (uv_st F 40 ((A 3) (pcs top))), A, (uv_st (uv_st G 17 ((B 20) (top * 6 + 0))) 18 ((B 21) (top * 6 + 0))), (uv_st (uv_st B 16 (upd (upd (B 16) top (nI (pcs top + 1))) top (nI (q + 1)))) 18 (upd (B 18) top (nI 0))),
          fun post h => xs_15 hH (w15 ha) (by omega) (fun _ _ => h) (fun z => absurd hX z), fun post h => yp_8b hYH hk ha y1 (by omega) y2 (by omega) h1 q2 q3 (fun z => absurd z ht) (fun _ z => by rw [k10] at z; exact absurd z (by decide)) (fun _ _ => h), Or.inl ⟨rfl, g4, _, rr_mu_lt (show pcs top < q + 1 by omega) q2, S, n, rn, N, g, uc, nd, cc, fu, ou, EC, top, uv_st pcs top (q + 1), bas, uv_st oo top 0, slf, EE, ?_, ?_, rfl⟩⟩
        · exact rr_B_up hB0 (fun i hi => uv_sn (by omega)) (fun _ _ => rfl) (fun i hi => by rw [uv_sn (by omega), uv_sn (by omega)]) (fun i hi => by rw [uv_sn (by omega), uv_sn (by omega)]) n6 n7 (Nat.le_refl _) n11 n12 h5 h8
        · have R := rr_F_tr (G' := (uv_st (uv_st G 17 ((B 20) (top * 6 + 0))) 18 ((B 21) (top * 6 + 0)))) (F' := (uv_st F 40 ((A 3) (pcs top)))) (A' := A) (B' := (uv_st (uv_st B 16 (upd (upd (B 16) top (nI (pcs top + 1))) top (nI (q + 1)))) 18 (upd (B 18) top (nI 0)))) hIA hF0 q2 tr hQ0 rfl rfl rfl rfl rfl etg rfl rfl rfl rfl rfl rfl rfl (fun j' hj' => by rw [uv_sn (by omega), uv_sn (by omega)]) (fun c hc => ⟨(pk_un (by omega)).trans (pk_un (by omega)), rfl, pk_un (by omega), rfl⟩) (fun _ _ => ⟨rfl, rfl⟩) rfl rfl pk_us y3 pk_us y2 rfl rfl rfl
          rw [ern] at R
          exact R
  · rw [ha, if_neg (by decide)] at hq
    have ho0 : oo top = 0 := by omega
    rcases Nat.eq_zero_or_pos fu with z | z
    · refine ⟨8, (uv_st F 40 (nI (pcs top + 1))), A, (uv_st G 16 (8)), (uv_st B 16 (upd (B 16) top (nI (pcs top + 1)))), fun post h => xs_16 hH (w16 ha) n6 (by omega) (fun _ => h) (fun f ef => by omega), fun post h => yp_8c hYH hk ha y2 (by omega) n7 (by omega) (fun _ => h) (fun f ef => by omega), Or.inr (Or.inr ⟨by decide, rfl, ?_⟩)⟩
      exact rr_err hB0 (fun i a b => uv_sn (by omega)) (fun _ _ => rfl) (fun i hi => uv_sn (by omega)) (fun i hi => uv_sn (by omega))
    · obtain ⟨f, rfl⟩ : ∃ f, fu = f + 1 := ⟨fu - 1, by omega⟩
      refine ⟨0, (uv_st (uv_st F 40 (nI (pcs top + 1))) 36 (nI f)), A, (uv_st G 12 (nI f)), (uv_st (uv_st (uv_st (uv_st B 16 (upd (upd (B 16) top (nI (pcs top + 1))) top (nI (pcs top + 1)))) 22 (upd (B 22) (top * 10 + (ss_O (S (pcs top)) - ss_f (S (pcs top)))) (nI (pcs top)))) 23 (upd (B 23) (top * 10 + (ss_O (S (pcs top)) - ss_f (S (pcs top)))) ((B 17) top))) 19 (upd (B 19) top (nI (ss_O (S (pcs top)) - ss_f (S (pcs top)) + 1)))),
        fun post h => xs_16 hH (w16 ha) n6 (by omega) (fun z => by omega) (fun f' ef => by cases ef; exact h), fun post h => yp_8c hYH hk ha y2 (by omega) n7 (by omega) (fun z => by omega) (fun f' ef => by cases ef; exact h), Or.inl ⟨rfl, g4, _, rr_mu_lt2 n96 (Nat.succ_pos _) t1, S, n, rn, N, g, uc, nd, cc, f, ou, EC, top, uv_st pcs top (pcs top + 1), bas, uv_st oo top 0, slf, EE, ?_, ?_, rfl⟩⟩
      · exact rr_B_up hB0 (fun i hi => by rw [uv_sn (by omega), uv_sn (by omega)]) (fun _ _ => rfl) (fun i hi => uv_sn (by omega)) (fun i hi => by rw [uv_sn (by omega), uv_sn (by omega), uv_sn (by omega), uv_sn (by omega)]) rfl rfl (by omega) n11 n12 h5 h8
      · exact rr_F_en hIA hF0 hp en rfl rfl rfl rfl rfl rfl rfl rfl (fun c hc => ⟨(pk_un (by omega)).trans (pk_un (by omega)), rfl, rfl, pk_un (by omega)⟩) rfl rfl rfl rfl pk_us rfl (by show (B 18) top = _; rw [y1, ho0]) pk_us rfl rfl rfl
end
end
section
/-! one step of both: a function word makes a closure -/
section
variable {k a : Nat → Int32} {S : Nat → ss_T} {n : Nat}
theorem ss_closed (h : ss_S k a n S) {w q : Nat} (hq : q < n) (c : ss_cl k S w q) : ∀ i, ¬ ss_on S n w i := by
  intro i o
  have wq := ss_on_lt h (p := q) (by omega) c.2
  have o1 := ss_on_down h (q := n) (p := q + 1) (Nat.le_refl _) (by omega) hq o
  have b := ss_on_back h hq (by omega) o1
  have p1 := (ss_preS h q (by omega) i b.1.1 b.1.2.1).2.1
  have p2 := (ss_preS h q (by omega) (ss_O (S q)) c.2.1 (Nat.le_refl _)).2.1
  rw [b.1.2.2] at p1
  rw [c.2.2.2] at p2
  exact b.2 ⟨c.1, by omega⟩
theorem ss_cap_l (h : ss_S k a n S) {w : Nat} {x : Int32} (c : ss_cap k a S n w x) : ss_l (S w) x ≠ 0 := by
  obtain ⟨p, c, hp, hk, ha, h1, h2, h5, hw, hl⟩ := c
  have on : ss_on S p w c := ⟨h1, h2, hw⟩
  rw [ss_fw_l h (by omega) on h5 hl, ← ha]
  rcases hk with z | z
  · exact (ss_V1 (h.2 p hp) z).2.1
  · exact (ss_V6 (h.2 p hp) z).2.2.1
end
section
variable {S : Nat → ss_T} {n : Nat} {rn N N' g g' : Nat → Nat} {uc uc' nd cc fu ou : Nat} {EC : Nat → Nat → Int32} {F F' G G' : Nat → Int32} {A A' B B' : Nat → Nat → Int32}
theorem rr_B_clo {E : Nat → Int32} {mc : Nat} (h : rr_B S n rn N g uc nd cc fu ou EC F A G B) (hmc : (F 27) = nI mc) (hmc2 : mc ≤ 32) (hlt : cc < mc) (eF : ∀ i, 24 ≤ i ∧ i ≤ 36 → F' i = F i) (eA : ∀ i, i ≤ 15 → A' i = A i)
    (eG : ∀ i, i ≤ 4 ∨ (9 ≤ i ∧ i ≤ 12) ∨ i = 14 → G' i = G i) (eB : ∀ i, i ≤ 1 ∨ (8 ≤ i ∧ i ≤ 9) ∨ (12 ≤ i ∧ i ≤ 15) → B' i = B i) (f1 : (F' 37) = nI (cc + 1)) (f2 : (G' 13) = nI (cc + 1)) (f3 : (F' 38) = nI uc') (hu : uc ≤ uc') (hN : ∀ w, w < uc → N' w = N w)
    (a1 : ∀ t, t < cc → (A' 16) t = (A 16) t) (a2 : ∀ j, j < cc * 8 → (A' 17) j = (A 17) j) (b1 : ∀ t, t < cc → (B' 10) t = (B 10) t ∧ (B' 11) t = (B 11) t)
    (hc : rr_C (B 0) (B 1) S n N' uc' nd E ((B' 10) cc) ((B' 11) cc) ((A' 16) cc) (A' 17) cc (B 15) (B 12))
    (H' : hp_H rn N' g' uc' nd (F' 39) (A' 18) (A' 19) (A' 20) (A' 21) (A' 22) (A' 23) (B' 13) (B' 14)) :
    rr_B S n rn N' g' uc' nd (cc + 1) fu ou (uv_st EC cc E) F' A' G' B' := by
  obtain ⟨h1, ⟨mw, mf, md, mc', l1, l2, l3, l4, l5, l6, l7, l8, l9, l10, l11, l12, l13, l14, l15, l16⟩, h3, h4, h5, ⟨n1, n2, n3, n4, n5, n6, n7, n8, n9, n10, n11, n12⟩, h7, h8, h9⟩ := h
  have em : mc' = mc := (nI_eq (by omega) (by omega)).mp (l11.symm.trans hmc)
  unfold rr_B rr_L rr_N
  rw [eF 24 (by omega), eF 25 (by omega), eF 26 (by omega), eF 27 (by omega), eF 28 (by omega), eF 29 (by omega), eF 30 (by omega), eF 31 (by omega), eF 32 (by omega), eF 33 (by omega), eF 34 (by omega), eF 35 (by omega), eF 36 (by omega),
    eA 0 (by omega), eA 1 (by omega), eA 2 (by omega), eA 3 (by omega), eA 4 (by omega), eA 5 (by omega), eA 6 (by omega), eA 7 (by omega), eA 8 (by omega), eA 9 (by omega), eA 10 (by omega), eA 11 (by omega), eA 12 (by omega), eA 13 (by omega), eA 14 (by omega), eA 15 (by omega),
    eG 0 (by omega), eG 1 (by omega), eG 2 (by omega), eG 3 (by omega), eG 4 (by omega), eG 9 (by omega), eG 10 (by omega), eG 11 (by omega), eG 12 (by omega), eG 14 (by omega),
    eB 0 (by omega), eB 1 (by omega), eB 8 (by omega), eB 9 (by omega), eB 12 (by omega), eB 13 (by omega), eB 14 (by omega), eB 15 (by omega)]
  rw [eB 13 (by omega), eB 14 (by omega)] at H'
  refine ⟨h1, ⟨mw, mf, md, mc', l1, l2, l3, l4, l5, l6, l7, l8, l9, l10, l11, l12, l13, by omega, l15, l16⟩, h3, h4, H', ⟨f3, n2, n3, f1, f2, n6, n7, n8, n9, n10, n11, n12⟩, fun i hi => ?_, fun v hv => rr_v_up (h8 v hv) (by omega), fun t ht => ?_⟩
  · obtain ⟨z1, z2, z3⟩ := h7 i hi
    exact ⟨z1, z2, rr_v_up z3 (by omega)⟩
  · by_cases e : t = cc
    · rw [e, uv_se]; exact hc
    · rw [uv_sn e, (b1 t (by omega)).1, (b1 t (by omega)).2, a1 t (by omega)]
      exact rr_C_up (h9 t (by omega)) hu hN (Nat.le_refl _) (fun _ _ => ⟨rfl, rfl⟩) (fun m hm => a2 _ (by omega))
end
section
variable {S : Nat → ss_T} {n : Nat} {rn N g : Nat → Nat} {uc nd cc fu ou : Nat} {EC : Nat → Nat → Int32} {top : Nat} {pcs bas oo : Nat → Nat} {slf : Nat → Int32} {EE : Nat → Nat → Int32} {F G : Nat → Int32} {A B : Nat → Nat → Int32}
theorem st_4 (hB : rr_B S n rn N g uc nd cc fu ou EC F A G B) (hF : rr_F S n rn nd cc EC top pcs bas oo slf EE F A G B) (hp : pcs top < n) (hk : (B 0) (pcs top) = 4) : rr_step (97 * fu + rr_mu n pcs (top + 1)) F A G B := by
  have hB0 := hB
  have hF0 := hF
  obtain ⟨h1, ⟨mw, mf, md, mc, l1, l2, l3, l4, l5, l6, l7, l8, l9, l10, l11, l12, l13, l14, l15, l16⟩, h3, h4, h5, ⟨n1, n2, n3, n4, n5, n6, n7, n8, n9, n10, n11, n12⟩, h7, h8, h9⟩ := hB
  obtain ⟨g1, g2, g3, g4, g5, g6, g7, g8, g9, g10, g11⟩ := hF
  obtain ⟨t1, t2, t3, t4, ⟨y1, y2, y3, y4, y5⟩, ⟨x1, x2, x3⟩, t7, _⟩ := g11 top (Nat.le_refl _)
  rw [if_pos rfl, Nat.add_zero] at t7
  have hIA := ss_I_S h1
  have hI := hIA (pcs top) t1
  have hQ6 := ss_Q6 hI
  have hL8 := ss_L8 hI
  have hV88 := ss_V88 hI
  have n96 : n ≤ 96 := by omega
  have hYH : yp_H G B n (pcs top) top := ⟨g2, g1, l16, n96, hp, t2⟩
  obtain ⟨w1, w2, w3⟩ := (h3.1 (pcs top) hp).2.2.2.2.1 hk
  obtain ⟨_, hq6, hO, hFn, hS⟩ := ss_V4 (h1.2 (pcs top) hp) hk
  have hH : xs_H F A n (pcs top) (bas top + ss_L (S (pcs top)) + ss_Q (S (pcs top))) := ⟨g6, l15, hp, n96, by rw [g7, w2, nI_add, Nat.add_assoc]⟩
  have hr0 : rn (bas top + ss_L (S (pcs top)) + ss_Q (S (pcs top))) = 0 := g10 _ (by omega)
  have hfl := ss_f_le (S (pcs top))
  have eO : ss_O (S (pcs top + 1)) = ss_O (S (pcs top)) + 1 := by rw [hS]; rfl
  have eW : ss_W (S (pcs top + 1)) = uv_st (ss_W (S (pcs top))) (ss_O (S (pcs top)) + 1) (pcs top) := by rw [hS]; rfl
  have eK : ss_K (S (pcs top + 1)) = uv_st (ss_K (S (pcs top))) (ss_O (S (pcs top)) + 1) 5 := by rw [hS]; rfl
  have on : ss_on S (pcs top + 1) (pcs top) (ss_O (S (pcs top)) + 1) := ⟨by omega, by omega, by rw [eW, uv_se]⟩
  obtain ⟨q, q1, q2, q3⟩ := st_cl hB0 hF0 hp on (by omega) (by rw [eW, uv_sn (by omega)])
  -- the place behind the function
  obtain ⟨b1, b2, b3, b4, b5, b6, b7⟩ := ss_after h1 q2 q3
  have eQ : ss_O (S q) = ss_O (S (pcs top)) + 1 := by omega
  have kq : ss_K (S q) (ss_O (S q)) = 5 := by rw [← (b5 _ (Nat.le_refl _)).1, eQ, eK, uv_se]
  have eS : S (q + 1) = ss_enf (S q) := by
    rcases b7 with ⟨_, z, _⟩ | ⟨_, _, z⟩ | ⟨_, z, _⟩
    · rw [kq] at z; exact absurd z (by decide)
    · exact z
    · exact absurd kq z
  obtain ⟨d1, d2, d3, d4, d5, d6, d7⟩ := ss_fw h1 (show q ≤ n by omega) q3.2 kq
  have he : ss_eq (S (pcs top)) (S (q + 1)) := by
    rw [eS]
    refine ⟨by rw [ss_enf_O]; omega, by rw [ss_enf_V]; exact d4.symm, fun i hi => ?_, fun j hj => ?_⟩
    · obtain ⟨e1, e2, e3, _⟩ := d6 i (by omega)
      exact ⟨e1.symm, e2.symm, e3.symm⟩
    · rw [ss_enf_N, d7 j (by rw [← d4]; exact hj)]
  have fq : ss_fx (ss_K (S q)) (ss_O (S q) - 1) = ss_f (S (pcs top)) := by
    show _ = ss_fx (ss_K (S (pcs top))) (ss_O (S (pcs top)))
    rw [show ss_O (S q) - 1 = ss_O (S (pcs top)) by omega]
    exact ss_fx_cg (fun c hc => (d6 c (by omega)).1.symm)
  have hq : ss_Q (S (pcs top)) + 1 = ss_Q (S (q + 1)) := by
    show _ = ss_P (S (q + 1)) (ss_f (S (q + 1)))
    rw [ss_eq_f he, eS, ss_enf_P, fq, uv_se, ← (d6 _ (show ss_f (S (pcs top)) < ss_O (S q) by omega)).2.2.2]
    rfl
  by_cases hlt : cc < mc
  · obtain ⟨pe, psrc⟩ := h3.2.2 (pcs top) hp hk
    have hQ : ∀ m, m < 8 → xu_Q rn (bas top) cc uc N (fun m => ss_cap (B 0) (B 1) S n (pcs top) (nI m)) (fun m => EE top (ss_l (S (pcs top)) (nI m))) ((A 17)) ((A 5) (ss_F (S (pcs top)) * 8 + m)) ((F 42)) m := by
      intro m hm
      obtain ⟨p1, p2⟩ := psrc m hm
      by_cases cp : ss_cap ((B 0)) ((B 1)) S n (pcs top) (nI m)
      · have hl := ss_cap_l h1 cp
        obtain ⟨v, v1, v2, v3, _⟩ := st_look hB0 hF0 hp rfl hm hl
        have hlV : ss_l (S (pcs top)) (nI m) ≤ ss_V (S (pcs top)) := ss_ls_le _ _ _
        have hsc := p1 cp
        unfold ss_sc at hsc
        by_cases hc : ss_C (S (pcs top)) (ss_f (S (pcs top))) < ss_l (S (pcs top)) (nI m)
        · rw [if_pos hc] at hsc
          exact Or.inr (Or.inl ⟨_, v, hsc, by omega, v3 hc, cp, v2⟩)
        · rw [if_neg hc] at hsc
          obtain ⟨f0, cp2⟩ := ss_cap_out h1 cp hl (by omega)
          rcases t4 with ⟨z, _⟩ | ⟨_, t, z1, z2, z3, z4⟩
          · exact absurd z f0
          · obtain ⟨W, c1, c2, c3, c4, c5, c6, c7, c8⟩ := h9 t z1
            have wl := (hI.2.2.2.2.2.2.1 (ss_f (S (pcs top))) (by omega) hfl).1
            have eW' : W = ss_W (S (pcs top)) (ss_f (S (pcs top))) := (nI_eq (by omega) (by omega)).mp (c1.symm.trans z3)
            rw [← eW'] at cp2
            obtain ⟨u, u1, u2, u3⟩ := (c8 m hm).1 cp2
            have hf5 : ss_K (S (pcs top)) (ss_f (S (pcs top))) = 5 := (xc_f5 (S (pcs top))).resolve_left f0
            have el := ss_fw_l (x := nI m) h1 t1 (show ss_on S (pcs top) W (ss_f (S (pcs top))) from ⟨by omega, hfl, eW'.symm⟩) hf5 (by omega)
            rw [el] at u3
            exact Or.inr (Or.inr ⟨hsc, cp, t, u, by rw [g8]; exact z2, z1, u1, u2, by show EE top _ = _; rw [z4 _ (by omega)]; exact u3⟩)
      · exact Or.inl ⟨p2 cp, cp⟩
    obtain ⟨N', g', uc', c', h', ur', ux', cu', r1, r2, r3, r4, r5, r6, X⟩ := xs_5 hH w1 (by omega) n4 l11 l13 hlt w3 hFn g7 (by omega) hQ n1 h5
    rw [h3.2.1 (pcs top) q q2 q3] at X
    refine ⟨0, _, _, _, _, X, fun post h => yp_4 hYH hk (by rw [t7] at y1; exact y1) (by omega) h1 q2 q3 n5 l12 l13 (by omega) (fun z => by omega) (fun _ => h), Or.inl ⟨rfl, g4, _, rr_mu_lt (show pcs top < q + 1 by omega) q2, S, n, rn, N', g', uc', nd, cc + 1, fu, ou, uv_st EC cc (EE top), top, uv_st pcs top (q + 1), bas, uv_st oo top (ss_Q (S (pcs top)) + 1), slf, EE, ?_, ?_, rfl⟩⟩
    · refine rr_B_clo hB0 l11 l13 hlt (fun i hi => by rw [uv_sn (by omega), uv_sn (by omega), uv_sn (by omega), uv_sn (by omega)]) (fun i hi => by rw [uv_sn (by omega), uv_sn (by omega), uv_sn (by omega), uv_sn (by omega), uv_sn (by omega), uv_sn (by omega)]) (fun i hi => uv_sn (by omega)) (fun i hi => by rw [uv_sn (by omega), uv_sn (by omega), uv_sn (by omega), uv_sn (by omega), uv_sn (by omega), uv_sn (by omega)]) rfl rfl r3 r1 r2 (fun t ht => pk_un (by omega)) r5 (fun t ht => ⟨pk_un (by omega), pk_un (by omega)⟩) ?_ (hp_setop r4 hr0)
      refine ⟨pcs top, pk_us, hp, hk, ss_closed h1 q2 q3, ?_, ?_, y4, r6⟩
      · show upd ((A 16)) cc ((A 2) (pcs top)) cc = _
        rw [pk_us]; exact w3
      · show upd ((B 11)) cc ((B 17) top) cc = _
        rw [pk_us]; exact y3
    · refine rr_F_smp hIA hF0 (p := q + 1) (q := ss_Q (S (pcs top)) + 1) q2 he hq rfl rfl rfl rfl rfl rfl rfl rfl rfl rfl pk_us (fun c hc => (pk_un (by omega)).trans (pk_un (by omega))) rfl pk_us (fun c hc => pk_un (by omega)) rfl rfl rfl rfl rfl ?_ ?_ ?_ (by omega) ?_
      · intro i hi
        exact ⟨pk_un (by omega), pk_un (by omega)⟩
      · rw [t7] at x2
        have key := fr_push (r := bas top + ss_L (S (pcs top)) + ss_Q (S (pcs top))) (x := 1) (y := nI cc) (cc' := cc + 1) x2 rfl (Or.inr ⟨rfl, cc, by omega, rfl⟩) (by omega)
        intro i hi
        have := key i hi
        show upd ((B 20)) (top * 6 + ss_Q (S (pcs top))) 1 (top * 6 + i) = upd ((A 22)) (bas top + ss_L (S (pcs top)) + ss_Q (S (pcs top))) 1 _ ∧ upd ((B 21)) (top * 6 + ss_Q (S (pcs top))) ((G 13)) (top * 6 + i) = upd ((A 23)) (bas top + ss_L (S (pcs top)) + ss_Q (S (pcs top))) ((F 37)) _ ∧ rr_v (cc + 1) (upd ((B 20)) (top * 6 + ss_Q (S (pcs top))) 1 (top * 6 + i)) (upd ((B 21)) (top * 6 + ss_Q (S (pcs top))) ((G 13)) (top * 6 + i))
        rw [n4, n5]; exact this
      · intro r hr _
        exact ⟨pk_un (by omega), pk_un (by omega)⟩
      · intro t ht
        exact ⟨pk_un (by omega), uv_sn (by omega)⟩
  · refine ⟨9, (uv_st F 40 (nI (pcs top + 1))), A, (uv_st G 16 (9)), (uv_st B 16 (upd (B 16) top (nI (pcs top + 1)))), fun post h => xs_5f hH w1 n4 l11 l13 (by omega) (by omega) h, fun post h => yp_4 hYH hk y1 (by omega) h1 q2 q3 n5 l12 l13 (by omega) (fun _ => h) (fun z => absurd z hlt), Or.inr (Or.inr ⟨by decide, rfl, ?_⟩)⟩
    exact rr_err hB0 (fun i a b => uv_sn (by omega)) (fun _ _ => rfl) (fun i hi => uv_sn (by omega)) (fun i hi => uv_sn (by omega))
end
end
section
/-! one step of both: a frame ends -/
section
variable {S : Nat → ss_T} {n : Nat} {rn N g : Nat → Nat} {uc nd cc fu ou : Nat} {EC : Nat → Nat → Int32} {top : Nat} {pcs bas oo : Nat → Nat} {slf : Nat → Int32} {EE : Nat → Nat → Int32} {F F1 G G1 : Nat → Int32} {A B B1 : Nat → Nat → Int32}
theorem st_ret {x y : Int32} (hB : rr_B S n rn N g uc nd cc fu ou EC F A G B) (hF : rr_F S n rn nd cc EC top pcs bas oo slf EE F A G B) (eF : ∀ i, i ≠ 40 → F1 i = F i) (eG : yp_G G G1) (eG2 : (G1 16) = (G 16)) (eB : ∀ i, i ≠ 16 → i ≠ 18 → B1 i = B i)
    (eB2 : ∀ c, c < top → (B1 16) c = (B 16) c ∧ (B1 18) c = (B 18) c) (hxy : rr_v cc x y)
    (X : ∀ post : Int32 → SX → Prop, (∀ p2 : SX → Prop, (∀ u, post 0 u → p2 u) → wpX_finishFrame p2 (uv_X F1 A) x y) → wpX_step post (uv_X F A))
    (Y : ∀ post : SY → Prop, (∀ p2 : SY → Prop, (∀ G' B', post (uv_Y G' B') → p2 (uv_Y G' B')) → wpY_finish p2 (uv_Y G1 B1) x y) → wpY_step post (uv_Y G B)) : rr_step (97 * fu + rr_mu n pcs (top + 1)) F A G B := by
  have hB0 := hB
  have hF0 := hF
  have hbas := rr_F_bas hF
  obtain ⟨h1, ⟨mw, mf, md, mc, l1, l2, l3, l4, l5, l6, l7, l8, l9, l10, l11, l12, l13, l14, l15, l16⟩, h3, h4, h5, ⟨n1, n2, n3, n4, n5, n6, n7, n8, n9, n10, n11, n12⟩, h7, h8, h9⟩ := hB
  obtain ⟨g1, g2, g3, g4, g5, g6, g7, g8, g9, g10, g11⟩ := hF
  have t1 := (g11 top (Nat.le_refl _)).1
  have t3 := (g11 top (Nat.le_refl _)).2.2.1
  have hIA := ss_I_S h1
  have b41 : (F1 41) = nI (bas top) := by rw [eF 41 (by omega)]; exact g7
  have h5' : hp_H rn N g uc nd (F1 39) (A 18) (A 19) (A 20) (A 21) (A 22) (A 23) (B 13) (B 14) := by rw [eF 39 (by omega)]; exact h5
  obtain ⟨g', h', ur', uk', uv', H', Xa, Xb⟩ := xw_finish (x := x) (y := y) b41 (by omega) h5'
  have f43 : (F1 43) = nI (top + 1) := by rw [eF 43 (by omega)]; exact g3
  have q15 : (G1 15) = nI (top + 1) := (eG 15 (by omega)).trans g2
  rcases Nat.eq_zero_or_pos top with z | z
  · subst z
    refine ⟨0, (uv_st (uv_st (uv_st (uv_st F1 39 (h')) 44 (0)) 34 (x)) 35 (y)), (uv_st (uv_st (uv_st A 18 (ur')) 19 (uk')) 20 (uv')), (uv_st (uv_st (uv_st G1 10 (x)) 11 (y)) 15 (0)), B1, fun post h => X post (fun p2 hp2 => Xa f43 p2 (hp2 _ h)), fun post h => Y post (fun p2 hp2 => yw_finish0 (G := G1) (B := B1) q15 (hp2 _ _ h)),
      Or.inr (Or.inl ⟨rfl, rfl, rfl, eG2.trans g5, S, n, (fun r => if bas 0 ≤ r then 0 else rn r), N, g', uc, nd, cc, fu, ou, EC, ?_⟩)⟩
    refine rr_B_up hB0 (fun i hi => by rw [uv_sn (by omega), uv_sn (by omega), uv_sn (by omega), uv_sn (by omega)]; exact eF i (by omega)) (fun i hi => by rw [uv_sn (by omega), uv_sn (by omega), uv_sn (by omega)]) (fun i hi => by rw [uv_sn (by omega), uv_sn (by omega), uv_sn (by omega)]; exact eG i (by omega)) (fun i hi => eB i (by omega) (by omega)) ?_ ?_ (Nat.le_refl _) rfl rfl ?_ ?_
    · show (F1 36) = _
      rw [eF 36 (by omega)]; exact n6
    · show (G1 12) = _
      rw [eG 12 (by omega)]; exact n7
    · rw [eB 13 (by omega) (by omega), eB 14 (by omega) (by omega)]; exact H'
    · rw [eB 13 (by omega) (by omega), eB 14 (by omega) (by omega)]; exact h8
  · obtain ⟨c, rfl⟩ : ∃ c, top = c + 1 := ⟨top - 1, by omega⟩
    obtain ⟨s1, s2, s3, s4, ⟨y1, y2, y3, y4, y5⟩, ⟨x1, x2, x3⟩, s7, s8⟩ := g11 c (by omega)
    rw [if_neg (by omega)] at s7
    have hb := s8 (by omega)
    have hIc := hIA (pcs c) s1
    have hQ6 := ss_Q6 hIc
    have hL8 := ss_L8 hIc
    obtain ⟨p1, p2, p3⟩ := g9 c (by omega)
    have o1 : (B1 18) c = nI (oo c) := by rw [(eB2 c (by omega)).2]; exact y1
    have eb : bas (c + 1) - 1 = bas c + ss_L (S (pcs c)) + oo c := by omega
    refine ⟨0, (uv_st (uv_st (uv_st (uv_st (uv_st F1 39 (h')) 40 ((A 24) c)) 41 ((A 25) c)) 42 ((A 26) c)) 43 (nI (c + 1))), (uv_st (uv_st (uv_st (uv_st (uv_st A 18 (ur')) 19 (uk')) 20 (uv')) 22 (upd (A 22) (bas (c + 1) - 1) x)) 23 (upd (A 23) (bas (c + 1) - 1) y)), (uv_st G1 15 (nI (c + 1))), (uv_st (uv_st (uv_st B1 20 (upd (B1 20) (c * 6 + oo c) x)) 21 (upd (B1 21) (c * 6 + oo c) y)) 18 (upd (B1 18) c (nI (oo c + 1)))),
      fun post h => X post (fun p2 hp2 => Xb c f43 (by omega) (by omega) (by omega) p2 (hp2 _ h)), fun post h => Y post (fun p2 hp2 => yw_finish (G := G1) (B := B1) q15 (by omega) o1 (by omega) (hp2 _ _ h)),
      Or.inl ⟨rfl, ?_, 97 * fu + rr_mu n pcs (c + 1), ?_, S, n, (fun r => if bas (c + 1) ≤ r then 0 else rn r), N, g', uc, nd, cc, fu, ou, EC, c, pcs, bas, uv_st oo c (oo c + 1), slf, EE, ?_, ?_, rfl⟩⟩
    · show (F1 44) = 1
      rw [eF 44 (by omega)]; exact g4
    · have e : rr_mu n pcs (c + 1 + 1) = rr_mu n pcs (c + 1) + (n + 1 - pcs (c + 1)) := rfl
      rw [e]; omega
    · refine rr_B_up hB0 (fun i hi => by rw [uv_sn (by omega), uv_sn (by omega), uv_sn (by omega), uv_sn (by omega), uv_sn (by omega)]; exact eF i (by omega)) (fun i hi => by rw [uv_sn (by omega), uv_sn (by omega), uv_sn (by omega), uv_sn (by omega), uv_sn (by omega)]) (fun i hi => by rw [uv_sn (by omega)]; exact eG i (by omega)) (fun i hi => by rw [uv_sn (by omega), uv_sn (by omega), uv_sn (by omega)]; exact eB i (by omega) (by omega)) ?_ ?_ (Nat.le_refl _) ?_ ?_ ?_ ?_
      · show (F1 36) = _
        rw [eF 36 (by omega)]; exact n6
      · show (G1 12) = _
        rw [eG 12 (by omega)]; exact n7
      · show (F1 34) = (G1 10)
        rw [eF 34 (by omega), eG 10 (by omega)]; exact n11
      · show (F1 35) = (G1 11)
        rw [eF 35 (by omega), eG 11 (by omega)]; exact n12
      · have e13 : (B1 13) = (B 13) := eB 13 (by omega) (by omega)
        have e14 : (B1 14) = (B 14) := eB 14 (by omega) (by omega)
        show hp_H _ N g' uc nd h' ur' uk' uv' (A 21) (upd (A 22) (bas (c + 1) - 1) x) (upd (A 23) (bas (c + 1) - 1) y) (B1 13) (B1 14)
        rw [e13, e14]
        refine hp_setop H' ?_
        show (if bas (c + 1) ≤ bas (c + 1) - 1 then 0 else rn (bas (c + 1) - 1)) = 0
        rw [if_neg (by omega), eb]; exact x3 _ (Nat.le_refl _)
      · show ∀ v, v < nd → rr_v cc ((B1 13) v) ((B1 14) v)
        rw [eB 13 (by omega) (by omega), eB 14 (by omega) (by omega)]; exact h8
    · have rlow : ∀ r, r < bas (c + 1) → (if bas (c + 1) ≤ r then 0 else rn r) = rn r := fun r hr => if_neg (by omega)
      refine ⟨by omega, rfl, rfl, ?_, eG2.trans g5, p1, p2, p3, fun c' hc' => g9 c' (by omega), fun r hr => ?_, fun c' hc' => ?_⟩
      · show (F1 44) = 1
        rw [eF 44 (by omega)]; exact g4
      · show (if bas (c + 1) ≤ r then 0 else rn r) = 0
        by_cases e : bas (c + 1) ≤ r
        · rw [if_pos e]
        · rw [if_neg e]
          have := x3 (r - (bas c + ss_L (S (pcs c)))) (by omega)
          rw [show bas c + ss_L (S (pcs c)) + (r - (bas c + ss_L (S (pcs c)))) = r by omega] at this
          exact this
      · by_cases e : c' = c
        · subst e
          unfold rr_f
          rw [uv_se, if_pos rfl]
          refine ⟨s1, ?_, s3, ?_, ⟨pk_us, ?_, ?_, ?_, ?_⟩, ⟨fun l hl => ?_, ?_, fun i hi => ?_⟩, s7, fun z => by omega⟩
          · show (B1 16) c' = _
            rw [(eB2 c' (by omega)).1]; exact s2
          · show fr_Z S n (S (pcs c')) cc (EE c') EC (slf c') ((B1 10))
            rw [eB 10 (by omega) (by omega)]; exact s4
          · show (B1 19) c' = _
            rw [eB 19 (by omega) (by omega)]; exact y2
          · show (B1 17) c' = _
            rw [eB 17 (by omega) (by omega)]; exact y3
          · show ev_E (EE c') nd ((B1 15)) ((B1 12)) (S (pcs c'))
            rw [eB 15 (by omega) (by omega), eB 12 (by omega) (by omega)]; exact y4
          · show ∀ i, ss_f (S (pcs c')) < i → i ≤ ss_O (S (pcs c')) → (B1 22) (c' * 10 + (i - ss_f (S (pcs c')) - 1)) = nI (ss_W (S (pcs c')) i) ∧ (B1 23) (c' * 10 + (i - ss_f (S (pcs c')) - 1)) = EE c' (ss_C (S (pcs c')) i)
            rw [eB 22 (by omega) (by omega), eB 23 (by omega) (by omega)]; exact y5
          · show (if bas (c' + 1) ≤ bas c' + l then 0 else rn (bas c' + l)) ≠ 0 ∧ EE c' _ = nI ((if bas (c' + 1) ≤ bas c' + l then 0 else rn (bas c' + l)) - 1)
            rw [if_neg (by omega)]; exact x1 l hl
          · show ∀ i, i < oo c' + 1 → upd ((B1 20)) (c' * 6 + oo c') x (c' * 6 + i) = upd ((A 22)) (bas (c' + 1) - 1) x (bas c' + ss_L (S (pcs c')) + i) ∧ upd ((B1 21)) (c' * 6 + oo c') y (c' * 6 + i) = upd ((A 23)) (bas (c' + 1) - 1) y (bas c' + ss_L (S (pcs c')) + i) ∧ rr_v cc (upd ((B1 20)) (c' * 6 + oo c') x (c' * 6 + i)) (upd ((B1 21)) (c' * 6 + oo c') y (c' * 6 + i))
            rw [eB 20 (by omega) (by omega), eB 21 (by omega) (by omega)]
            exact fr_push x2 eb hxy (Nat.le_refl _)
          · show (if bas (c' + 1) ≤ bas c' + ss_L (S (pcs c')) + i then 0 else rn (bas c' + ss_L (S (pcs c')) + i)) = 0
            by_cases e : bas (c' + 1) ≤ bas c' + ss_L (S (pcs c')) + i
            · rw [if_pos e]
            · rw [if_neg e]; exact x3 i (by omega)
        · have hlt : c' < c := by omega
          have hb1 := hbas c' (by omega)
          have hcb : bas (c' + 1) ≤ bas c := by
            by_cases e2 : c' + 1 = c
            · rw [e2]; exact Nat.le_refl _
            · have sub : rr_F S n rn nd cc EC (c + 1) pcs bas oo slf EE F A G B := hF0
              have mono : ∀ d, c' + 1 + d ≤ c → bas (c' + 1) ≤ bas (c' + 1 + d) := by
                intro d
                induction d with
                | zero => intro _; exact Nat.le_refl _
                | succ d ih =>
                  intro hd
                  have := ih (by omega)
                  have h8' := (g11 (c' + 1 + d) (by omega)).2.2.2.2.2.2.2 (by omega)
                  have e3 : c' + 1 + (d + 1) = c' + 1 + d + 1 := by omega
                  rw [e3]; omega
              have := mono (c - (c' + 1)) (by omega)
              rw [show c' + 1 + (c - (c' + 1)) = c by omega] at this
              exact this
          refine rr_f_low (hIA (pcs c') (g11 c' (by omega)).1) (g11 c' (by omega)) (by omega) hlt rfl rfl rfl (uv_sn e) rfl rfl ?_ ?_ ?_ ?_ ?_ (Nat.le_refl _) ?_ (Nat.le_refl _) ?_
          · show (B1 16) c' = _ ∧ (B1 17) c' = _ ∧ upd ((B1 18)) c (nI (oo c + 1)) c' = _ ∧ (B1 19) c' = _
            rw [pk_un e, (eB2 c' (by omega)).1, (eB2 c' (by omega)).2, eB 17 (by omega) (by omega), eB 19 (by omega) (by omega)]; exact ⟨rfl, rfl, rfl, rfl⟩
          · intro i hi
            show (B1 22) _ = _ ∧ (B1 23) _ = _
            rw [eB 22 (by omega) (by omega), eB 23 (by omega) (by omega)]; exact ⟨rfl, rfl⟩
          · intro i hi
            show upd ((B1 20)) (c * 6 + oo c) x _ = _ ∧ upd ((B1 21)) (c * 6 + oo c) y _ = _
            rw [pk_un (by omega), pk_un (by omega), eB 20 (by omega) (by omega), eB 21 (by omega) (by omega)]; exact ⟨rfl, rfl⟩
          · intro r hr _
            exact ⟨pk_un (by omega), pk_un (by omega)⟩
          · intro r hr
            exact rlow r (by omega)
          · intro v _
            show (B1 15) v = _ ∧ (B1 12) v = _
            rw [eB 15 (by omega) (by omega), eB 12 (by omega) (by omega)]; exact ⟨rfl, rfl⟩
          · intro t _
            show (B1 10) t = _ ∧ EC t = EC t
            rw [eB 10 (by omega) (by omega)]; exact ⟨rfl, rfl⟩
end
end
section
/-! one step of both: CALL -/
theorem ss_fun_f (s : ss_T) (p : Nat) (a : Int32) : ss_f (ss_fun s p a) = ss_O s + 1 := by
  show ss_fx (uv_st (ss_K s) (ss_O s + 1) 5) (ss_O s + 1) = _
  unfold ss_fx
  rw [uv_se, if_pos rfl]
/-- a frame at the start of a function -/
theorem fr_fun {k a : Nat → Int32} {S : Nat → ss_T} {n c b W t nd cc : Nat} {EC : Nat → Nat → Int32} {rn : Nat → Nat} {clw env ops blocks bW bE nP nN oK oV rk rv : Nat → Int32}
    (h1 : ss_S k a n S) (hW : W < n) (hk : k W = 4) (hE : ev_E (EC t) nd nP nN (S W)) (ht : t < cc) (hc : clw t = nI W) (he : env c = nI nd) (ho : ops c = nI 0) (hb : blocks c = nI 0) (hrn : ∀ r, b + 1 ≤ r → rn r = 0) :
    ss_L (S (W + 1)) = 1 ∧ ss_Q (S (W + 1)) = 0 ∧ fr_Z S n (S (W + 1)) cc (uv_st (EC t) (ss_V (S W) + 1) (nI nd)) EC (nI t) clw ∧
    fr_Y (S (W + 1)) c 0 (uv_st (EC t) (ss_V (S W) + 1) (nI nd)) (nd + 1) env ops blocks bW bE (upd nP nd (EC t (ss_V (S W)))) (upd nN nd (a W)) ∧
    fr_X (S (W + 1)) c 0 b cc (uv_st (EC t) (ss_V (S W) + 1) (nI nd)) (uv_st rn b (nd + 1)) oK oV rk rv := by
  have e := (ss_V4 (h1.2 W hW) hk).2.2.2.2
  have ef : ss_f (S (W + 1)) = ss_O (S W) + 1 := by rw [e, ss_fun_f]
  have eO : ss_O (S (W + 1)) = ss_O (S W) + 1 := by rw [e]; rfl
  have eV : ss_V (S (W + 1)) = ss_V (S W) + 1 := by rw [e]; rfl
  have eC : ss_C (S (W + 1)) (ss_O (S W) + 1) = ss_V (S W) := by rw [e, ss_fun_C, uv_se]
  have eW : ss_W (S (W + 1)) (ss_O (S W) + 1) = W := by rw [e, ss_fun_W, uv_se]
  have eP : ss_P (S (W + 1)) (ss_O (S W) + 1) = 0 := by rw [e, ss_fun_P, uv_se]
  have eN : ss_N (S (W + 1)) = uv_st (ss_N (S W)) (ss_V (S W)) (a W) := by rw [e]; rfl
  have eE : ∀ j, j ≤ ss_V (S W) → uv_st (EC t) (ss_V (S W) + 1) (nI nd) j = EC t j := fun j hj => uv_sn (by omega)
  have eL : ss_L (S (W + 1)) = 1 := by
    show ss_V (S (W + 1)) - ss_C (S (W + 1)) (ss_f (S (W + 1))) = 1
    rw [ef, eC, eV]; omega
  refine ⟨eL, ?_, Or.inr ⟨by rw [ef]; omega, t, ht, rfl, by rw [ef, eW]; exact hc, fun j hj => ?_⟩, ⟨ho, ?_, ?_, ⟨by rw [eE 0 (by omega)]; exact hE.1, fun j hj => ?_⟩, fun i i1 i2 => ?_⟩, fun l hl => ?_, fun i hi => by omega, fun i hi => ?_⟩
  · show ss_P (S (W + 1)) (ss_f (S (W + 1))) = 0
    rw [ef]; exact eP
  · rw [ef, eC] at hj
    exact eE j hj
  · rw [eO, ef, Nat.sub_self]; exact hb
  · rw [eV, uv_se]; exact he
  · rw [eV] at hj
    rw [eN]
    by_cases c : j = ss_V (S W)
    · refine ⟨nd, by omega, by rw [c, uv_se], ?_, ?_⟩
      · rw [pk_us, c, eE _ (Nat.le_refl _)]
      · rw [pk_us, c, uv_se]
    · obtain ⟨v, v1, v2, v3, v4⟩ := hE.2 j (by omega)
      refine ⟨v, by omega, by rw [eE (j + 1) (by omega)]; exact v2, ?_, ?_⟩
      · rw [pk_un (by omega), eE j (by omega)]; exact v3
      · rw [pk_un (by omega), uv_sn c]; exact v4
  · rw [ef] at i1; rw [eO] at i2; omega
  · rw [eL] at hl
    have z : l = 0 := by omega
    subst z
    have b0 : b + 0 = b := rfl
    rw [ef, eC, Nat.add_zero, uv_se, b0, uv_se]
    exact ⟨by omega, rfl⟩
  · rw [eL, uv_sn (by omega)]; exact hrn _ (by omega)
section
variable {S : Nat → ss_T} {n : Nat} {rn N g : Nat → Nat} {uc nd cc fu ou : Nat} {EC : Nat → Nat → Int32} {top : Nat} {pcs bas oo : Nat → Nat} {slf : Nat → Int32} {EE : Nat → Nat → Int32} {F G : Nat → Int32} {A B : Nat → Nat → Int32}
theorem st_3 (hB : rr_B S n rn N g uc nd cc fu ou EC F A G B) (hF : rr_F S n rn nd cc EC top pcs bas oo slf EE F A G B) (hp : pcs top < n) (hk : (B 0) (pcs top) = 3) : rr_step (97 * fu + rr_mu n pcs (top + 1)) F A G B := by
  have hB0 := hB
  have hF0 := hF
  obtain ⟨h1, ⟨mw, mf, md, mc, l1, l2, l3, l4, l5, l6, l7, l8, l9, l10, l11, l12, l13, l14, l15, l16⟩, h3, h4, h5, ⟨n1, n2, n3, n4, n5, n6, n7, n8, n9, n10, n11, n12⟩, h7, h8, h9⟩ := hB
  obtain ⟨g1, g2, g3, g4, g5, g6, g7, g8, g9, g10, g11⟩ := hF
  obtain ⟨t1, t2, t3, t4, ⟨y1, y2, y3, y4, y5⟩, ⟨x1, x2, x3⟩, t7, _⟩ := g11 top (Nat.le_refl _)
  rw [if_pos rfl, Nat.add_zero] at t7
  have hIA := ss_I_S h1
  have hI := hIA (pcs top) t1
  have hQ6 := ss_Q6 hI
  have hL8 := ss_L8 hI
  have hV88 := ss_V88 hI
  have n96 : n ≤ 96 := by omega
  have hYH : yp_H G B n (pcs top) top := ⟨g2, g1, l16, n96, hp, t2⟩
  obtain ⟨w1, w2⟩ := (h3.1 (pcs top) hp).2.2.2.1 hk
  obtain ⟨hq, hS⟩ := ss_V3 (h1.2 (pcs top) hp) hk
  obtain ⟨o, ho⟩ : ∃ o, oo top = o + 2 := ⟨oo top - 2, by omega⟩
  have hoQ : ss_Q (S (pcs top)) = o + 2 := by omega
  rw [ho] at y1 x2
  obtain ⟨a1, a2, a3⟩ := x2 o (by omega)
  obtain ⟨c1, c2, c3⟩ := x2 (o + 1) (by omega)
  have nd160 := h5.1
  have er : (F 41) + (A 1) (pcs top) = nI (bas top + ss_L (S (pcs top)) + o) := by
    rw [g7, w2, nI_add, hoQ]; congr 1; omega
  have hH : xs_H F A n (pcs top) (bas top + ss_L (S (pcs top)) + o) := ⟨g6, l15, hp, n96, er⟩
  rcases a3 with k0 | ⟨k1, t, ht, vt⟩
  · have rk0 : (A 22) (bas top + ss_L (S (pcs top)) + o) ≠ 1 := fun z => by rw [← a1, k0] at z; exact absurd z (by decide)
    refine ⟨6, (uv_st F 40 (nI (pcs top + 1))), A, (uv_st (uv_st (uv_st G 17 ((B 20) (top * 6 + o))) 18 ((B 21) (top * 6 + o))) 16 (6)), (uv_st (uv_st B 16 (upd (B 16) top (nI (pcs top + 1)))) 18 (upd (upd (B 18) top (nI (o + 1))) top (nI o))),
      fun post h => xs_4 (t := 0) hH w1 (by omega) n6 (by omega) g3 g1 l8 l10 (fun z => absurd z rk0) (fun z => absurd z rk0) (fun _ => h) (fun z => absurd z rk0) (fun z => absurd z rk0) (fun _ z => absurd z rk0),
      fun post h => yp_3 (t := 0) (w := 0) hYH hk y1 (by omega) l9 l10 n7 (by omega) n2 n3 (fun z => absurd k0 z) (fun _ => h) (fun z => absurd k0 z) (fun z => absurd k0 z) (fun _ z => absurd k0 z), Or.inr (Or.inr ⟨by decide, rfl, ?_⟩)⟩
    exact rr_err hB0 (fun i a b => uv_sn (by omega)) (fun _ _ => rfl) (fun i hi => by rw [uv_sn (by omega), uv_sn (by omega), uv_sn (by omega)]) (fun i hi => by rw [uv_sn (by omega), uv_sn (by omega)])
  · have kn : (B 20) (top * 6 + o) ≠ 0 := fun z => by rw [k1] at z; exact absurd z (by decide)
    have rk1 : (A 22) (bas top + ss_L (S (pcs top)) + o) = 1 := a1.symm.trans k1
    have rv1 : (A 23) (bas top + ss_L (S (pcs top)) + o) = nI t := a2.symm.trans vt
    obtain ⟨W, d1, d2, d3, d4, d5, d6, d7, d8⟩ := h9 t ht
    obtain ⟨_, _, _, f16, eS⟩ := ss_V4 (h1.2 W d2) d3
    have ep : vp_in ((A 16) t) 16 := by rw [d5]; exact vp_in_nI f16 (by omega)
    have ep2 : (A 4) ((A 16) t).toNatClampNeg = nI (W + 1) := by rw [d5, nI_clamp (by omega)]; exact (h3.2.2 W d2 d3).1
    have hX := fun post h6 h7 h8 h0 => xs_4 (post := post) hH w1 (by omega) n6 (by omega) g3 g1 l8 l10 (fun _ => ⟨rv1, by omega⟩) (fun _ => ep) h6 h7 h8 h0
    have hY := fun post h6 h7 h8 h0 => yp_3 (post := post) (t := t) (w := W) hYH hk y1 (by omega) l9 l10 n7 (by omega) n2 n3 (fun _ => ⟨vt, by omega, d1, by omega⟩) h6 h7 h8 h0
    by_cases hd : top + 1 < md
    · rcases Nat.eq_zero_or_pos fu with z | z
      · refine ⟨8, (uv_st F 40 (nI (pcs top + 1))), A, (uv_st (uv_st (uv_st G 17 ((B 20) (top * 6 + o))) 18 ((B 21) (top * 6 + o))) 16 (8)), (uv_st (uv_st B 16 (upd (B 16) top (nI (pcs top + 1)))) 18 (upd (upd (B 18) top (nI (o + 1))) top (nI o))),
          fun post h => hX post (fun q => absurd rk1 q) (fun _ q => by omega) (fun _ _ _ => h) (fun f _ _ q => by omega),
          fun post h => hY post (fun q => absurd q kn) (fun _ q => by omega) (fun _ _ _ => h) (fun f _ _ q => by omega), Or.inr (Or.inr ⟨by decide, rfl, ?_⟩)⟩
        exact rr_err hB0 (fun i a b => uv_sn (by omega)) (fun _ _ => rfl) (fun i hi => by rw [uv_sn (by omega), uv_sn (by omega), uv_sn (by omega)]) (fun i hi => by rw [uv_sn (by omega), uv_sn (by omega)])
      · obtain ⟨f, rfl⟩ : ∃ f, fu = f + 1 := ⟨fu - 1, by omega⟩
        have hr0 : rn (bas top + ss_L (S (pcs top)) + o + 1) = 0 := g10 _ (by omega)
        have H' := hp_new h5 (show nd < 160 by omega) hr0 (by omega)
        have q1 : (B 20) (top * 6 + (o + 1)) = (A 22) (bas top + ss_L (S (pcs top)) + o + 1) := c1
        have q2 : (B 21) (top * 6 + (o + 1)) = (A 23) (bas top + ss_L (S (pcs top)) + o + 1) := c2
        rw [← q1, ← q2] at H'
        have Z := fr_fun (c := top + 1) (b := bas top + ss_L (S (pcs top)) + o + 1) (rn := rn) (cc := cc) (clw := (B 10)) (env := upd (B 17) (top + 1) (nI nd)) (ops := upd (upd (upd (B 18) top (nI (o + 1))) top (nI o)) (top + 1) 0) (blocks := upd (B 19) (top + 1) 0) (bW := (B 22)) (bE := (B 23)) (oK := (B 20)) (oV := (B 21)) (rk := (A 22)) (rv := (A 23)) h1 d2 d3 d7 ht d1 pk_us pk_us pk_us (fun r hr => g10 r (by omega))
        rw [← d6] at Z
        obtain ⟨z1, z2, z3, z4, z5⟩ := Z
        refine ⟨0, (uv_st (uv_st (uv_st (uv_st (uv_st F 36 (nI f)) 40 ((A 4) ((A 16) t).toNatClampNeg)) 41 (nI (bas top + ss_L (S (pcs top)) + o + 1))) 42 ((A 23) (bas top + ss_L (S (pcs top)) + o))) 43 (nI (top + 2))), (uv_st (uv_st (uv_st A 24 (upd (A 24) top (nI (pcs top + 1)))) 25 (upd (A 25) top ((F 41)))) 26 (upd (A 26) top ((F 42)))),
          (uv_st (uv_st (uv_st (uv_st (uv_st G 17 ((B 20) (top * 6 + o))) 18 ((B 21) (top * 6 + o))) 12 (nI f)) 15 (nI (top + 2))) 14 (nI (nd + 1))),
          (uv_st (uv_st (uv_st (uv_st (uv_st (uv_st (uv_st (uv_st B 16 (upd (upd (B 16) top (nI (pcs top + 1))) (top + 1) (nI (W + 1)))) 18 (upd (upd (upd (B 18) top (nI (o + 1))) top (nI o)) (top + 1) 0)) 19 (upd (B 19) (top + 1) 0)) 12 (upd (B 12) nd ((B 1) W))) 13 (upd (B 13) nd ((B 20) (top * 6 + (o + 1))))) 14 (upd (B 14) nd ((B 21) (top * 6 + (o + 1))))) 15 (upd (B 15) nd ((B 11) t))) 17 (upd (B 17) (top + 1) (nI nd))),
          fun post h => hX post (fun q => absurd rk1 q) (fun _ q => by omega) (fun _ _ q => by omega) (fun f' _ _ ef => by cases ef; exact h),
          fun post h => hY post (fun q => absurd q kn) (fun _ q => by omega) (fun _ _ q => by omega) (fun f' _ _ ef => by cases ef; exact h),
          Or.inl ⟨rfl, g4, 97 * f + rr_mu n (uv_st (uv_st pcs top (pcs top + 1)) (top + 1) (W + 1)) (top + 1 + 1), ?_, S, n, uv_st rn (bas top + ss_L (S (pcs top)) + o + 1) (nd + 1), N, g, uc, nd + 1, cc, f, ou, EC, top + 1, uv_st (uv_st pcs top (pcs top + 1)) (top + 1) (W + 1), uv_st bas (top + 1) (bas top + ss_L (S (pcs top)) + o + 1), uv_st (uv_st oo top o) (top + 1) 0, uv_st slf (top + 1) (nI t), uv_st EE (top + 1) (uv_st (EC t) (ss_V (S W) + 1) (nI nd)), ?_, ?_, rfl⟩⟩
        · rw [rr_mu_top, rr_mu_top]
          have e : rr_mu n pcs (top + 1) = rr_mu n pcs top + (n + 1 - pcs top) := rfl
          rw [e]; omega
        · refine rr_B_node (x := (B 1) W) (y := (B 20) (top * 6 + (o + 1))) (z := (B 21) (top * 6 + (o + 1))) (e := (B 11) t) hB0 (fun i hi => by rw [uv_sn (by omega), uv_sn (by omega), uv_sn (by omega), uv_sn (by omega), uv_sn (by omega)]) (fun i hi => by rw [uv_sn (by omega), uv_sn (by omega), uv_sn (by omega)]) (fun i hi => by rw [uv_sn (by omega), uv_sn (by omega), uv_sn (by omega), uv_sn (by omega), uv_sn (by omega)]) (fun i hi => by rw [uv_sn (by omega), uv_sn (by omega), uv_sn (by omega), uv_sn (by omega), uv_sn (by omega), uv_sn (by omega), uv_sn (by omega), uv_sn (by omega)]) rfl rfl (Nat.le_refl _) rfl rfl rfl rfl rfl c3 H'
        · refine ⟨by omega, rfl, rfl, g4, g5, ?_, ?_, ?_, fun c hc => ?_, fun r hr => ?_, fun c hc => ?_⟩
          · rw [uv_se]; exact ep2
          · rw [uv_se]; rfl
          · rw [uv_se]; exact rv1
          · have e0 : c ≠ top + 1 := by omega
            show upd ((A 24)) top (nI (pcs top + 1)) c = nI (uv_st (uv_st pcs top (pcs top + 1)) (top + 1) (W + 1) c) ∧ upd ((A 25)) top ((F 41)) c = nI (uv_st bas (top + 1) (bas top + ss_L (S (pcs top)) + o + 1) c) ∧ upd ((A 26)) top ((F 42)) c = uv_st slf (top + 1) (nI t) c
            rw [uv_sn (f := uv_st pcs top (pcs top + 1)) e0, uv_sn (f := bas) e0, uv_sn (f := slf) e0]
            by_cases e : c = top
            · subst e
              rw [pk_us, pk_us, pk_us, uv_se]; exact ⟨rfl, g7, g8⟩
            · rw [pk_un e, pk_un e, pk_un e, uv_sn e]; exact g9 c (by omega)
          · rw [uv_se, uv_se, z1] at hr
            rw [uv_sn (by omega)]; exact g10 r (by omega)
          · by_cases e : c = top + 1
            · subst e
              unfold rr_f
              rw [uv_se, uv_se, uv_se, uv_se, uv_se, if_pos rfl]
              exact ⟨d2, pk_us, by omega, z3, z4, z5, z2.symm, fun z => by omega⟩
            · by_cases e2 : c = top
              · subst e2
                unfold rr_f
                rw [uv_sn e, uv_sn e, uv_sn e, uv_sn e, uv_sn e, uv_se, uv_se, uv_se, if_neg (by omega), hS]
                refine ⟨hp, ?_, t3, t4, ⟨?_, ?_, ?_, ?_, y5⟩, ⟨fun l hl => ?_, fun i hi => ?_, fun i hi => ?_⟩, ?_, fun _ => uv_se⟩
                · show upd (upd ((B 16)) c (nI (pcs c + 1))) (c + 1) (nI (W + 1)) c = _
                  rw [pk_un e, pk_us]
                · show upd (upd (upd ((B 18)) c (nI (o + 1))) c (nI o)) (c + 1) 0 c = _
                  rw [pk_un e, pk_us]
                · show upd ((B 19)) (c + 1) 0 c = _
                  rw [pk_un e]; exact y2
                · show upd ((B 17)) (c + 1) (nI nd) c = _
                  rw [pk_un e]; exact y3
                · exact ev_up y4 (by omega) (fun v hv => ⟨pk_un (by omega), pk_un (by omega)⟩)
                · have hl' : l < ss_L (S (pcs c)) := hl
                  rw [uv_sn (by omega)]; exact x1 l hl'
                · exact x2 i (by omega)
                · have : rn (bas c + ss_L (S (pcs c)) + i) = 0 := g10 _ (by omega)
                  show uv_st rn (bas c + ss_L (S (pcs c)) + o + 1) (nd + 1) (bas c + ss_L (S (pcs c)) + i) = 0
                  rw [uv_sn (by omega)]; exact this
                · rw [ss_smp_Q]; omega
              · have hlt : c < top := by omega
                have hbc := rr_F_bas hF0 c hlt
                refine rr_f_low (hIA (pcs c) (g11 c (by omega)).1) (g11 c (by omega)) hlt (by omega) ((uv_sn e).trans (uv_sn e2)) (uv_sn e) (uv_sn (by omega)) ((uv_sn e).trans (uv_sn e2)) (uv_sn e) (uv_sn e) ⟨(pk_un e).trans (pk_un e2), pk_un e, (pk_un e).trans ((pk_un e2).trans (pk_un e2)), pk_un e⟩ (fun _ _ => ⟨rfl, rfl⟩) (fun _ _ => ⟨rfl, rfl⟩) (fun _ _ _ => ⟨rfl, rfl⟩) (fun r hr => uv_sn (by omega)) (by omega) (fun v hv => ⟨pk_un (by omega), pk_un (by omega)⟩) (Nat.le_refl _) (fun _ _ => ⟨rfl, rfl⟩)
    · refine ⟨7, (uv_st F 40 (nI (pcs top + 1))), A, (uv_st (uv_st (uv_st G 17 ((B 20) (top * 6 + o))) 18 ((B 21) (top * 6 + o))) 16 (7)), (uv_st (uv_st B 16 (upd (B 16) top (nI (pcs top + 1)))) 18 (upd (upd (B 18) top (nI (o + 1))) top (nI o))),
        fun post h => hX post (fun q => absurd rk1 q) (fun _ _ => h) (fun _ q _ => absurd q hd) (fun f _ q _ => absurd q hd),
        fun post h => hY post (fun q => absurd q kn) (fun _ _ => h) (fun _ q _ => absurd q hd) (fun f _ q _ => absurd q hd), Or.inr (Or.inr ⟨by decide, rfl, ?_⟩)⟩
      exact rr_err hB0 (fun i a b => uv_sn (by omega)) (fun _ _ => rfl) (fun i hi => by rw [uv_sn (by omega), uv_sn (by omega), uv_sn (by omega)]) (fun i hi => by rw [uv_sn (by omega), uv_sn (by omega)])
end
end
section
/-! one step of both: all words -/
section
variable {S : Nat → ss_T} {n : Nat} {rn N g : Nat → Nat} {uc nd cc fu ou : Nat} {EC : Nat → Nat → Int32} {top : Nat} {pcs bas oo : Nat → Nat} {slf : Nat → Int32} {EE : Nat → Nat → Int32} {F G : Nat → Int32} {A B : Nat → Nat → Int32}
theorem st_7 (hB : rr_B S n rn N g uc nd cc fu ou EC F A G B) (hF : rr_F S n rn nd cc EC top pcs bas oo slf EE F A G B) (hp : pcs top < n) (hk : (B 0) (pcs top) = 7) : rr_step (97 * fu + rr_mu n pcs (top + 1)) F A G B := by
  have hB0 := hB
  have hF0 := hF
  obtain ⟨h1, ⟨mw, mf, md, mc, l1, l2, l3, l4, l5, l6, l7, l8, l9, l10, l11, l12, l13, l14, l15, l16⟩, h3, h4, h5, ⟨n1, n2, n3, n4, n5, n6, n7, n8, n9, n10, n11, n12⟩, h7, h8, h9⟩ := hB
  obtain ⟨g1, g2, g3, g4, g5, g6, g7, g8, g9, g10, g11⟩ := hF
  obtain ⟨t1, t2, t3, t4, ⟨y1, y2, y3, y4, y5⟩, ⟨x1, x2, x3⟩, t7, _⟩ := g11 top (Nat.le_refl _)
  rw [if_pos rfl, Nat.add_zero] at t7
  have hIA := ss_I_S h1
  have hI := hIA (pcs top) t1
  have hQ6 := ss_Q6 hI
  have hL8 := ss_L8 hI
  have hV88 := ss_V88 hI
  have n96 : n ≤ 96 := by omega
  have hYH : yp_H G B n (pcs top) top := ⟨g2, g1, l16, n96, hp, t2⟩
  obtain ⟨w1, w9, w10, w11, w2⟩ := (h3.1 (pcs top) hp).2.2.2.2.2.2.2.1 hk
  obtain ⟨⟨m, hm, ha⟩, hq, hl, hS⟩ := ss_V7 (h1.2 (pcs top) hp) hk
  have ho : oo top = 0 + 1 := by omega
  rw [ho] at y1 x2
  obtain ⟨a1, a2, a3⟩ := x2 0 (by omega)
  have hH : xs_H F A n (pcs top) (bas top + ss_L (S (pcs top)) + 0) := ⟨g6, l15, hp, n96, by rw [g7, w1, nI_add]; rfl⟩
  have jmp : ((B 1) (pcs top) = 3 ∨ (B 1) (pcs top) = 4) → rr_step (97 * fu + rr_mu n pcs (top + 1)) F A G B := by
    intro h34
    by_cases ht : (B 20) (top * 6 + 0) ≠ 1 ∧ (B 21) (top * 6 + 0) = 0
    · have k0 : (A 22) (bas top + ss_L (S (pcs top)) + 0) = 0 := by
        rcases a3 with z | ⟨z, _⟩
        · exact a1.symm.trans z
        · exact absurd z ht.1
      have v0 : (A 23) (bas top + ss_L (S (pcs top)) + 0) = 0 := a2.symm.trans ht.2
      obtain ⟨c1, _⟩ := w2 h34
      refine st_drop hB0 hF0 hp hS (fun post h => ?_) (fun post h => yp_7 hYH hk y1 (by omega) rfl rfl (fun z0 hz => ?_))
      · rcases h34 with z | z
        · rw [if_pos z] at c1
          exact xs_12f hH c1 (by omega) k0 v0 h
        · rw [if_neg (by rw [z]; decide)] at c1
          exact xs_13f hH c1 (by omega) k0 v0 h
      · have := hz.mpr ht
        subst this
        exact yp_stay (G := (uv_st (uv_st G 17 ((B 20) (top * 6 + 0))) 18 ((B 21) (top * 6 + 0)))) (B := (uv_st (uv_st B 16 (upd (B 16) top (nI (pcs top + 1)))) 18 (upd (B 18) top (nI 0)))) h34 h
    · exact st_jump hB0 hF0 hp hk h34 ht
  match m, hm, ha with
  | 0, _, ha =>
    have ha0 : (B 1) (pcs top) = 0 := ha
    refine st_drop hB0 hF0 hp hS (fun post h => xs_9 hH (w9 ha0) h) (fun post h => yp_7 hYH hk y1 (by omega) rfl rfl (fun z0 _ => ?_))
    exact yp_drop (G := (uv_st (uv_st G 17 ((B 20) (top * 6 + 0))) 18 ((B 21) (top * 6 + 0)))) (B := (uv_st (uv_st B 16 (upd (B 16) top (nI (pcs top + 1)))) 18 (upd (B 18) top (nI 0)))) (by rw [ha0]; decide) (by rw [ha0]; decide) (by rw [ha0]; decide) (by rw [ha0]; decide) h
  | 1, _, ha => exact st_emit hB0 hF0 hp hk ha
  | 2, _, ha =>
    have ha2 : (B 1) (pcs top) = 2 := ha
    refine st_ret (F1 := (uv_st F 40 (nI (pcs top + 1)))) (G1 := (uv_st (uv_st G 17 ((B 20) (top * 6 + 0))) 18 ((B 21) (top * 6 + 0)))) (B1 := (uv_st (uv_st B 16 (upd (B 16) top (nI (pcs top + 1)))) 18 (upd (B 18) top (nI 0)))) (x := (B 20) (top * 6 + 0)) (y := (B 21) (top * 6 + 0)) hB0 hF0 (fun i hi => uv_sn hi) (fun i hi => by rw [uv_sn (by omega), uv_sn (by omega)]) rfl (fun i i1 i2 => by rw [uv_sn i2, uv_sn i1]) (fun c hc => ⟨pk_un (by omega), pk_un (by omega)⟩) a3 (fun post h => xs_11 hH (w11 ha2) (by omega) (fun p2 hp2 => ?_)) (fun post h => yp_7 hYH hk y1 (by omega) rfl rfl (fun z0 _ => ?_))
    · rw [← a1, ← a2]; exact h p2 hp2
    · rw [ha2]
      exact yp_ret (G := (uv_st (uv_st G 17 ((B 20) (top * 6 + 0))) 18 ((B 21) (top * 6 + 0)))) (B := (uv_st (uv_st B 16 (upd (B 16) top (nI (pcs top + 1)))) 18 (upd (B 18) top (nI 0)))) h
  | 3, _, ha => exact jmp (Or.inl ha)
  | 4, _, ha => exact jmp (Or.inr ha)
theorem st_10 (hB : rr_B S n rn N g uc nd cc fu ou EC F A G B) (hF : rr_F S n rn nd cc EC top pcs bas oo slf EE F A G B) (hp : pcs top < n) (hk : (B 0) (pcs top) = 10) : rr_step (97 * fu + rr_mu n pcs (top + 1)) F A G B := by
  by_cases h5' : ss_K (S (pcs top)) (ss_O (S (pcs top))) = 5
  · have hB1 := hB
    have hF1 := hF
    have hB0 := hB
    have hF0 := hF
    obtain ⟨h1, ⟨mw, mf, md, mc, l1, l2, l3, l4, l5, l6, l7, l8, l9, l10, l11, l12, l13, l14, l15, l16⟩, h3, h4, h5, ⟨n1, n2, n3, n4, n5, n6, n7, n8, n9, n10, n11, n12⟩, h7, h8, h9⟩ := hB
    obtain ⟨g1, g2, g3, g4, g5, g6, g7, g8, g9, g10, g11⟩ := hF
    obtain ⟨t1, t2, t3, t4, ⟨y1, y2, y3, y4, y5⟩, ⟨x1, x2, x3⟩, t7, _⟩ := g11 top (Nat.le_refl _)
    rw [if_pos rfl, Nat.add_zero] at t7
    have hIA := ss_I_S h1
    have hI := hIA (pcs top) t1
    have hQ6 := ss_Q6 hI
    have hL8 := ss_L8 hI
    have hV88 := ss_V88 hI
    have n96 : n ≤ 96 := by omega
    have hYH : yp_H G B n (pcs top) top := ⟨g2, g1, l16, n96, hp, t2⟩
    obtain ⟨w20, _⟩ := (h3.1 (pcs top) hp).2.2.2.2.2.2.2.2.2.2 hk
    obtain ⟨hO, hq, _⟩ := ss_V10 (h1.2 (pcs top) hp) hk
    obtain ⟨r0, er0⟩ := uv_sur ((F 41) + (A 1) (pcs top))
    have hH : xs_H F A n (pcs top) r0 := ⟨g6, l15, hp, n96, er0⟩
    have ef : ss_f (S (pcs top)) = ss_O (S (pcs top)) := by
      obtain ⟨o, eo⟩ : ∃ o, ss_O (S (pcs top)) = o + 1 := ⟨ss_O (S (pcs top)) - 1, by omega⟩
      show ss_fx (ss_K (S (pcs top))) (ss_O (S (pcs top))) = _
      rw [eo] at h5' ⊢
      unfold ss_fx
      rw [if_pos h5']
    have hb : (B 19) top = nI 0 := by rw [y2, ef, Nat.sub_self]
    exact st_ret (F1 := (uv_st F 40 (nI (pcs top + 1)))) (G1 := G) (B1 := (uv_st B 16 (upd (B 16) top (nI (pcs top + 1))))) (x := 0) (y := 0) hB1 hF1 (fun i hi => uv_sn hi) (fun _ _ => rfl) rfl (fun i i1 _ => uv_sn i1) (fun c hc => ⟨pk_un (by omega), rfl⟩) (Or.inl rfl) (fun post h => xs_20 hH (w20 h5') h) (fun post h => yp_10f hYH hk hb (fun p2 hp2 => h p2 (fun _ _ => hp2 _)))
  · exact st_10b hB hF hp hk h5'
theorem st_end (hB : rr_B S n rn N g uc nd cc fu ou EC F A G B) (hF : rr_F S n rn nd cc EC top pcs bas oo slf EE F A G B) (hp : pcs top = n) : rr_step (97 * fu + rr_mu n pcs (top + 1)) F A G B := by
  have hB0 := hB
  have hF0 := hF
  obtain ⟨h1, ⟨mw, mf, md, mc, l1, l2, l3, l4, l5, l6, l7, l8, l9, l10, l11, l12, l13, l14, l15, l16⟩, _⟩ := hB
  obtain ⟨g1, g2, g3, g4, g5, g6, g7, g8, g9, g10, g11⟩ := hF
  have t2 := (g11 top (Nat.le_refl _)).2.1
  rw [hp] at g6 t2
  exact st_ret (F1 := F) (G1 := G) (B1 := B) (x := 0) (y := 0) hB0 hF0 (fun _ _ => rfl) (fun _ _ => rfl) rfl (fun _ _ _ => rfl) (fun _ _ => ⟨rfl, rfl⟩) (Or.inl rfl) (fun post h => xs_end g6 l15 (by omega) h) (fun post h => yp_end g2 g1 l16 (by omega) t2 (fun p2 hp2 => h p2 (fun _ _ => hp2 _)))
end
theorem st_all {mu : Nat} {F G : Nat → Int32} {A B : Nat → Nat → Int32} (h : rr_R mu F A G B) : rr_step mu F A G B := by
  obtain ⟨S, n, rn, N, g, uc, nd, cc, fu, ou, EC, top, pcs, bas, oo, slf, EE, hB, hF, rfl⟩ := h
  have hpc := (hF.2.2.2.2.2.2.2.2.2.2 top (Nat.le_refl _)).1
  by_cases hp : pcs top = n
  · exact st_end hB hF hp
  · have hp : pcs top < n := by omega
    rcases hB.1.2 (pcs top) hp with ⟨k, _⟩ | ⟨k, _⟩ | ⟨k, _⟩ | ⟨k, _⟩ | ⟨k, _⟩ | ⟨k, _⟩ | ⟨k, _⟩ | ⟨k, _⟩ | ⟨k, _⟩ | ⟨k, _⟩ | ⟨k, _⟩
    · exact st_0 hB hF hp k
    · exact st_1 hB hF hp k
    · exact st_2 hB hF hp k
    · exact st_3 hB hF hp k
    · exact st_4 hB hF hp k
    · exact st_5 hB hF hp k
    · exact st_6 hB hF hp k
    · exact st_7 hB hF hp k
    · exact st_8 hB hF hp k
    · exact st_9 hB hF hp k
    · exact st_10 hB hF hp k
end
section
/-! the two loops together -/
def rr_0 (F : Nat → Int32) (A : Nat → Nat → Int32) (G : Nat → Int32) (B : Nat → Nat → Int32) : Prop :=
  ∃ S n N g uc nd cc fu ou EC, rr_B S n (fun _ => 0) N g uc nd cc fu ou EC F A G B
theorem ex_fin {F G : Nat → Int32} {A B : Nat → Nat → Int32} (r : Int32) (hQ : rr_Q F A G B) (hr : (G 16) = r) :
    ∃ (F' : Nat → Int32) (A' : Nat → Nat → Int32) (G' : Nat → Int32) (B' : Nat → Nat → Int32), rr_0 F' A' G' B' ∧
      (∀ post : Int32 → SX → Prop, post r (uv_X F' A') → wX_execute_33 post r (F 0) (F 1) (F 2) (F 3) (F 4) (F 5) (F 6) (F 7) (F 8) (F 9) (F 10) (F 11) (F 12) (F 13) (F 14) (F 15) (F 16) (F 17) (F 18) (F 19) (F 20) (F 21) (F 22) (F 23) (F 24) (F 25) (F 26) (F 27) (F 28) (F 29) (F 30) (F 31) (F 32) (F 33) (F 34) (F 35) (F 36) (F 37) (F 38) (F 39) (F 40) (F 41) (F 42) (F 43) (F 44) (A 0) (A 1) (A 2) (A 3) (A 4) (A 5) (A 6) (A 7) (A 8) (A 9) (A 10) (A 11) (A 12) (A 13) (A 14) (A 15) (A 16) (A 17) (A 18) (A 19) (A 20) (A 21) (A 22) (A 23) (A 24) (A 25) (A 26)) ∧
      (∀ post : Int32 → SY → Prop, post r (uv_Y G' B') → wY_execute_44 post (G 0) (G 1) (G 2) (G 3) (G 4) (G 5) (G 6) (G 7) (G 8) (G 9) (G 10) (G 11) (G 12) (G 13) (G 14) (G 15) (G 16) (G 17) (G 18) (B 0) (B 1) (B 2) (B 3) (B 4) (B 5) (B 6) (B 7) (B 8) (B 9) (B 10) (B 11) (B 12) (B 13) (B 14) (B 15) (B 16) (B 17) (B 18) (B 19) (B 20) (B 21) (B 22) (B 23)) := by
  obtain ⟨S, n, rn, N, g, uc, nd, cc, fu, ou, EC, hB⟩ := hQ
  have hB0 := hB
  obtain ⟨h1, h2, h3, h4, h5, ⟨n1, n2, n3, n4, n5, n6, n7, n8, n9, n10, n11, n12⟩, h7, h8, h9⟩ := hB
  obtain ⟨g', h', ur', uk', uv', H', X⟩ := xw_closeL (F := F) (A := A) (L := 0) (lim := 0) rfl (by omega) h5
  have e0 : (fun r => if 0 ≤ r then 0 else rn r) = fun _ => 0 := funext fun r => if_pos (Nat.zero_le r)
  rw [e0] at H'
  by_cases z : r = 0
  · subst z
    refine ⟨(uv_st (uv_st (uv_st F 39 (h')) 43 (0)) 44 (0)), (uv_st (uv_st (uv_st A 18 (ur')) 19 (uk')) 20 (uv')), (uv_st G 15 (0)), B, ⟨S, n, N, g', uc, nd, cc, fu, ou, EC, ?_⟩, fun post h => ?_, fun post h => ?_⟩
    · exact rr_B_up hB0 (fun i hi => by rw [uv_sn (by omega), uv_sn (by omega), uv_sn (by omega)]) (fun i hi => by rw [uv_sn (by omega), uv_sn (by omega), uv_sn (by omega)]) (fun i hi => uv_sn (by omega)) (fun _ _ => rfl) n6 n7 (Nat.le_refl _) n11 n12 H' h8
    · unfold wX_execute_33
      exact X _ (br_t rfl h)
    · unfold wY_execute_44
      rw [hr]
      exact br_t rfl (by rw [← hr]; rw [← hr] at h; exact h)
  · refine ⟨(uv_st (uv_st (uv_st (uv_st (uv_st F 39 (h')) 43 (0)) 44 (0)) 34 (0)) 35 (0)), (uv_st (uv_st (uv_st A 18 (ur')) 19 (uk')) 20 (uv')), (uv_st (uv_st (uv_st G 15 (0)) 10 (0)) 11 (0)), B, ⟨S, n, N, g', uc, nd, cc, fu, ou, EC, ?_⟩, fun post h => ?_, fun post h => ?_⟩
    · exact rr_B_up hB0 (fun i hi => by rw [uv_sn (by omega), uv_sn (by omega), uv_sn (by omega), uv_sn (by omega), uv_sn (by omega)]) (fun i hi => by rw [uv_sn (by omega), uv_sn (by omega), uv_sn (by omega)]) (fun i hi => by rw [uv_sn (by omega), uv_sn (by omega), uv_sn (by omega)]) (fun _ _ => rfl) n6 n7 (Nat.le_refl _) rfl rfl H' h8
    · unfold wX_execute_33
      refine X _ (br_f z ?_)
      exact xw_setResult (F := (uv_st (uv_st (uv_st F 39 (h')) 43 (0)) 44 (0))) (A := (uv_st (uv_st (uv_st A 18 (ur')) 19 (uk')) 20 (uv'))) h
    · unfold wY_execute_44
      subst hr
      exact br_f z h
theorem ex_loop : ∀ (mu i : Nat) (F : Nat → Int32) (A : Nat → Nat → Int32) (G : Nat → Int32) (B : Nat → Nat → Int32), rr_R mu F A G B → mu + i < 15990 →
    ∃ (r : Int32) (F' : Nat → Int32) (A' : Nat → Nat → Int32) (G' : Nat → Int32) (B' : Nat → Nat → Int32), rr_0 F' A' G' B' ∧
      (∀ post : Int32 → SX → Prop, post r (uv_X F' A') → ∃ k, wX_execute_4 post k 0 (nI i) (F 0) (F 1) (F 2) (F 3) (F 4) (F 5) (F 6) (F 7) (F 8) (F 9) (F 10) (F 11) (F 12) (F 13) (F 14) (F 15) (F 16) (F 17) (F 18) (F 19) (F 20) (F 21) (F 22) (F 23) (F 24) (F 25) (F 26) (F 27) (F 28) (F 29) (F 30) (F 31) (F 32) (F 33) (F 34) (F 35) (F 36) (F 37) (F 38) (F 39) (F 40) (F 41) (F 42) (F 43) (F 44) (A 0) (A 1) (A 2) (A 3) (A 4) (A 5) (A 6) (A 7) (A 8) (A 9) (A 10) (A 11) (A 12) (A 13) (A 14) (A 15) (A 16) (A 17) (A 18) (A 19) (A 20) (A 21) (A 22) (A 23) (A 24) (A 25) (A 26)) ∧
      (∀ post : Int32 → SY → Prop, post r (uv_Y G' B') → ∃ k, wY_execute_14 post k (nI i) (G 0) (G 1) (G 2) (G 3) (G 4) (G 5) (G 6) (G 7) (G 8) (G 9) (G 10) (G 11) (G 12) (G 13) (G 14) (G 15) (G 16) (G 17) (G 18) (B 0) (B 1) (B 2) (B 3) (B 4) (B 5) (B 6) (B 7) (B 8) (B 9) (B 10) (B 11) (B 12) (B 13) (B 14) (B 15) (B 16) (B 17) (B 18) (B 19) (B 20) (B 21) (B 22) (B 23)) := by
  intro mu
  induction mu using Nat.strongRecOn with
  | ind mu ih =>
  intro i F A G B h hi
  have hrun : (F 44) = 1 ∧ (∃ top, top < 12 ∧ (G 15) = nI (top + 1)) ∧ (G 16) = 0 := by
    obtain ⟨S, n, rn, N, g, uc, nd, cc, fu, ou, EC, top, pcs, bas, oo, slf, EE, hB, hF, _⟩ := h
    exact ⟨hF.2.2.2.1, ⟨top, hF.1, hF.2.1⟩, hF.2.2.2.2.1⟩
  obtain ⟨f1, ⟨top, ht, f2⟩, f3⟩ := hrun
  have b1 : ∀ j, j < 16000 → ¬ (16000 : Int32) ≤ nI j := fun j hj => nI_ge (a := j) (b := 16000) hj (by omega)
  have b2 : ∀ j, j < 100000 → ¬ (100000 : Int32) ≤ nI j := fun j hj => nI_ge (a := j) (b := 100000) hj (by omega)
  obtain ⟨r, F1, A1, G1, B1, X, Y, c⟩ := st_all h
  have goX : ∀ post k, wX_execute_4 post k r (nI (i + 1)) (F1 0) (F1 1) (F1 2) (F1 3) (F1 4) (F1 5) (F1 6) (F1 7) (F1 8) (F1 9) (F1 10) (F1 11) (F1 12) (F1 13) (F1 14) (F1 15) (F1 16) (F1 17) (F1 18) (F1 19) (F1 20) (F1 21) (F1 22) (F1 23) (F1 24) (F1 25) (F1 26) (F1 27) (F1 28) (F1 29) (F1 30) (F1 31) (F1 32) (F1 33) (F1 34) (F1 35) (F1 36) (F1 37) (F1 38) (F1 39) (F1 40) (F1 41) (F1 42) (F1 43) (F1 44) (A1 0) (A1 1) (A1 2) (A1 3) (A1 4) (A1 5) (A1 6) (A1 7) (A1 8) (A1 9) (A1 10) (A1 11) (A1 12) (A1 13) (A1 14) (A1 15) (A1 16) (A1 17) (A1 18) (A1 19) (A1 20) (A1 21) (A1 22) (A1 23) (A1 24) (A1 25) (A1 26) → wX_execute_4 post (k + 1) 0 (nI i) (F 0) (F 1) (F 2) (F 3) (F 4) (F 5) (F 6) (F 7) (F 8) (F 9) (F 10) (F 11) (F 12) (F 13) (F 14) (F 15) (F 16) (F 17) (F 18) (F 19) (F 20) (F 21) (F 22) (F 23) (F 24) (F 25) (F 26) (F 27) (F 28) (F 29) (F 30) (F 31) (F 32) (F 33) (F 34) (F 35) (F 36) (F 37) (F 38) (F 39) (F 40) (F 41) (F 42) (F 43) (F 44) (A 0) (A 1) (A 2) (A 3) (A 4) (A 5) (A 6) (A 7) (A 8) (A 9) (A 10) (A 11) (A 12) (A 13) (A 14) (A 15) (A 16) (A 17) (A 18) (A 19) (A 20) (A 21) (A 22) (A 23) (A 24) (A 25) (A 26) := by
    intro post k hk
    unfold wX_execute_4
    refine br_f (b1 i (by omega)) <| br_f (by rw [f1]; decide) <| br_t rfl (X _ ?_)
    exact nm_r (e' := nI (i + 1)) (nI_1 i) hk
  have goY : ∀ post k, wY_execute_14 post k (nI (i + 1)) (G1 0) (G1 1) (G1 2) (G1 3) (G1 4) (G1 5) (G1 6) (G1 7) (G1 8) (G1 9) (G1 10) (G1 11) (G1 12) (G1 13) (G1 14) (G1 15) (G1 16) (G1 17) (G1 18) (B1 0) (B1 1) (B1 2) (B1 3) (B1 4) (B1 5) (B1 6) (B1 7) (B1 8) (B1 9) (B1 10) (B1 11) (B1 12) (B1 13) (B1 14) (B1 15) (B1 16) (B1 17) (B1 18) (B1 19) (B1 20) (B1 21) (B1 22) (B1 23) → wY_execute_14 post (k + 1) (nI i) (G 0) (G 1) (G 2) (G 3) (G 4) (G 5) (G 6) (G 7) (G 8) (G 9) (G 10) (G 11) (G 12) (G 13) (G 14) (G 15) (G 16) (G 17) (G 18) (B 0) (B 1) (B 2) (B 3) (B 4) (B 5) (B 6) (B 7) (B 8) (B 9) (B 10) (B 11) (B 12) (B 13) (B 14) (B 15) (B 16) (B 17) (B 18) (B 19) (B 20) (B 21) (B 22) (B 23) := by
    intro post k hk
    unfold wY_execute_14
    refine br_f (b2 i (by omega)) <| br_f (by rw [f2]; exact nI_ge (a := 0) (b := top + 1) (by omega) (by omega)) <| br_t f3 (Y _ ?_)
    exact nm_r (e' := nI (i + 1)) (nI_1 i) hk
  rcases c with ⟨z, _, mu', hmu, hR⟩ | ⟨z, z1, z2, z3, hQ⟩ | ⟨z, z1, hQ⟩
  · subst z
    obtain ⟨r', F', A', G', B', h0, K1, K2⟩ := ih mu' hmu (i + 1) F1 A1 G1 B1 hR (by omega)
    refine ⟨r', F', A', G', B', h0, fun post hp => ?_, fun post hp => ?_⟩
    · obtain ⟨k, hk⟩ := K1 post hp
      exact ⟨k + 1, goX post k hk⟩
    · obtain ⟨k, hk⟩ := K2 post hp
      exact ⟨k + 1, goY post k hk⟩
  · subst z
    obtain ⟨F', A', G', B', h0, K1, K2⟩ := ex_fin 0 hQ z3
    refine ⟨0, F', A', G', B', h0, fun post hp => ⟨0 + 1 + 1, goX post _ ?_⟩, fun post hp => ⟨0 + 1 + 1, goY post _ ?_⟩⟩
    · unfold wX_execute_4
      exact br_f (b1 _ (by omega)) <| br_t z1 (K1 post hp)
    · unfold wY_execute_14
      exact br_f (b2 _ (by omega)) <| br_t (by rw [z2]; decide) (K2 post hp)
  · obtain ⟨F', A', G', B', h0, K1, K2⟩ := ex_fin r hQ z1
    refine ⟨r, F', A', G', B', h0, fun post hp => ⟨0 + 1 + 1, goX post _ ?_⟩, fun post hp => ⟨0 + 1 + 1, goY post _ ?_⟩⟩
    · unfold wX_execute_4
      exact br_f (b1 _ (by omega)) <| br_c (fun _ => K1 post hp) (fun _ => br_f z (K1 post hp))
    · unfold wY_execute_14
      exact br_f (b2 _ (by omega)) <| br_c (fun _ => K2 post hp) (fun _ => br_f (fun e => z (z1.symm.trans e)) (K2 post hp))
theorem ex_all {mu top : Nat} {F G : Nat → Int32} {A B : Nat → Nat → Int32} (h : rr_R mu F A (uv_st G 16 (0)) B) (hmu : mu < 15900) (hfr : (G 15) = nI (top + 1)) (ht : top < 12) :
    ∃ (r : Int32) (F' : Nat → Int32) (A' : Nat → Nat → Int32) (G' : Nat → Int32) (B' : Nat → Nat → Int32), rr_0 F' A' G' B' ∧
      (∀ post : Int32 → SX → Prop, post r (uv_X F' A') → wpX_execute post (uv_X F A)) ∧
      (∀ post : Int32 → SY → Prop, post r (uv_Y G' B') → wpY_execute post (uv_Y G B)) := by
  obtain ⟨r, F', A', G', B', h0, K1, K2⟩ := ex_loop mu 0 F A (uv_st G 16 (0)) B h (by omega)
  refine ⟨r, F', A', G', B', h0, fun post hp => ?_, fun post hp => ?_⟩
  · unfold wpX_execute uv_X
    exact K1 post hp
  · unfold wpY_execute uv_Y
    exact br_f (by rw [hfr]; exact nI_ge (a := 0) (b := top + 1) (by omega) (by omega)) (K2 post hp)
end
section
/-! the scan has one end state: printed by det.py -/
/-- one end state -/
def Dt {α : Type} (w : (α → Prop) → Prop) : Prop := ∀ P, w P → ∃ s, P s ∧ ∀ P' : α → Prop, P' s → w P'
section
variable {α β : Type}
theorem dt_post {s : α} : Dt (fun P => P s) := fun _ h => ⟨s, h, fun _ h => h⟩
theorem dt_ite {c : Prop} {A B : (α → Prop) → Prop} (h1 : c → Dt A) (h2 : ¬ c → Dt B) : Dt (fun P => (c → A P) ∧ (¬ c → B P)) := by
  intro P h
  by_cases hc : c
  · obtain ⟨s, a, b⟩ := h1 hc P (h.1 hc)
    exact ⟨s, a, fun P' h' => ⟨fun _ => b P' h', fun z => absurd hc z⟩⟩
  · obtain ⟨s, a, b⟩ := h2 hc P (h.2 hc)
    exact ⟨s, a, fun P' h' => ⟨fun z => absurd z hc, fun _ => b P' h'⟩⟩
theorem dt_and {c : Prop} {A : (α → Prop) → Prop} (h1 : c → Dt A) : Dt (fun P => c ∧ A P) := by
  rintro P ⟨hc, h⟩
  obtain ⟨s, a, b⟩ := h1 hc P h
  exact ⟨s, a, fun P' h' => ⟨hc, b P' h'⟩⟩
theorem dt_all {γ : Type} {e : γ} {A : γ → (α → Prop) → Prop} (h1 : Dt (A e)) : Dt (fun P => ∀ x, x = e → A x P) := by
  intro P h
  obtain ⟨s, a, b⟩ := h1 P (h e rfl)
  exact ⟨s, a, fun P' h' x hx => by rw [hx]; exact b P' h'⟩
theorem dt_ex {A : Nat → (α → Prop) → Prop} (h1 : ∀ n, Dt (A n)) : Dt (fun P => ∃ n, A n P) := by
  rintro P ⟨n, h⟩
  obtain ⟨s, a, b⟩ := h1 n P h
  exact ⟨s, a, fun P' h' => ⟨n, b P' h'⟩⟩
theorem dt_call {W : (β → Prop) → Prop} {K : (α → Prop) → β → Prop} (hW : Dt W) (hK : ∀ u, Dt (fun P => K P u)) : Dt (fun P => W (K P)) := by
  intro P h
  obtain ⟨u, a, b⟩ := hW _ h
  obtain ⟨s, a', b'⟩ := hK u P a
  exact ⟨s, a', fun P' h' => b _ (b' P' h')⟩
end
theorem dt_wY_level_41 (x2 : Int32) (f_maxWords : Int32) (f_maxFuel : Int32) (f_maxDepth : Int32) (f_maxClosures : Int32) (f_words : Int32) (f_open : Int32) (f_fn : Int32) (f_vars : Int32) (f_functions : Int32) (f_outs : Int32) (f_resKind : Int32) (f_resValue : Int32) (f_fuelLeft : Int32) (f_closuresMade : Int32) (f_nodes : Int32) (f_frames : Int32) (f_error : Int32) (f_popKind : Int32) (f_popValue : Int32) (a_wKind : Nat → Int32) (a_wArg : Nat → Int32) (a_cKind : Nat → Int32) (a_cWord : Nat → Int32) (a_cVars : Nat → Int32) (a_cOper : Nat → Int32) (a_vName : Nat → Int32) (a_capt : Nat → Int32) (a_outKind : Nat → Int32) (a_outValue : Nat → Int32) (a_clWord : Nat → Int32) (a_clEnv : Nat → Int32) (a_nName : Nat → Int32) (a_nKind : Nat → Int32) (a_nValue : Nat → Int32) (a_nPrev : Nat → Int32) (a_pc : Nat → Int32) (a_env : Nat → Int32) (a_ops : Nat → Int32) (a_blocks : Nat → Int32) (a_oKind : Nat → Int32) (a_oValue : Nat → Int32) (a_bWord : Nat → Int32) (a_bEnv : Nat → Int32) : ∀ (n : Nat) (z0 : Int32) (z1 : Int32), Dt (fun P => wY_level_41 P x2 f_maxWords f_maxFuel f_maxDepth f_maxClosures f_words f_open f_fn f_vars f_functions f_outs f_resKind f_resValue f_fuelLeft f_closuresMade f_nodes f_frames f_error f_popKind f_popValue a_wKind a_wArg a_cKind a_cWord a_cVars a_cOper a_vName a_capt a_outKind a_outValue a_clWord a_clEnv a_nName a_nKind a_nValue a_nPrev a_pc a_env a_ops a_blocks a_oKind a_oValue a_bWord a_bEnv n z0 z1) := by
  intro n
  induction n with
  | zero =>
    intros
    intro P h
    unfold wY_level_41 at h
    exact h.elim
  | succ n ih =>
    intros
    unfold wY_level_41
    repeat' (first | with_reducible exact dt_post | with_reducible exact ih .. | with_reducible refine dt_ite (fun _ => ?_) (fun _ => ?_) | with_reducible refine dt_and (fun _ => ?_) | with_reducible refine dt_all ?_ | with_reducible refine dt_ex (fun _ => ?_) | (rintro ⟨_, _, _, _, _, _, _, _, _, _, _, _, _, _, _, _, _, _, _, _, _, _, _, _, _, _, _, _, _, _, _, _, _, _, _, _, _, _, _, _, _, _, _⟩; dsimp only))
theorem dt_wY_level_4 (x1 : Int32) (f_maxWords : Int32) (f_maxFuel : Int32) (f_maxDepth : Int32) (f_maxClosures : Int32) (f_words : Int32) (f_open : Int32) (f_fn : Int32) (f_vars : Int32) (f_functions : Int32) (f_outs : Int32) (f_resKind : Int32) (f_resValue : Int32) (f_fuelLeft : Int32) (f_closuresMade : Int32) (f_nodes : Int32) (f_frames : Int32) (f_error : Int32) (f_popKind : Int32) (f_popValue : Int32) (a_wKind : Nat → Int32) (a_wArg : Nat → Int32) (a_cKind : Nat → Int32) (a_cWord : Nat → Int32) (a_cVars : Nat → Int32) (a_cOper : Nat → Int32) (a_vName : Nat → Int32) (a_capt : Nat → Int32) (a_outKind : Nat → Int32) (a_outValue : Nat → Int32) (a_clWord : Nat → Int32) (a_clEnv : Nat → Int32) (a_nName : Nat → Int32) (a_nKind : Nat → Int32) (a_nValue : Nat → Int32) (a_nPrev : Nat → Int32) (a_pc : Nat → Int32) (a_env : Nat → Int32) (a_ops : Nat → Int32) (a_blocks : Nat → Int32) (a_oKind : Nat → Int32) (a_oValue : Nat → Int32) (a_bWord : Nat → Int32) (a_bEnv : Nat → Int32) : ∀ (n : Nat) (z0 : Int32) (z1 : Int32), Dt (fun P => wY_level_4 P x1 f_maxWords f_maxFuel f_maxDepth f_maxClosures f_words f_open f_fn f_vars f_functions f_outs f_resKind f_resValue f_fuelLeft f_closuresMade f_nodes f_frames f_error f_popKind f_popValue a_wKind a_wArg a_cKind a_cWord a_cVars a_cOper a_vName a_capt a_outKind a_outValue a_clWord a_clEnv a_nName a_nKind a_nValue a_nPrev a_pc a_env a_ops a_blocks a_oKind a_oValue a_bWord a_bEnv n z0 z1) := by
  intro n
  induction n with
  | zero =>
    intros
    intro P h
    unfold wY_level_4 at h
    exact h.elim
  | succ n ih =>
    intros
    unfold wY_level_4
    repeat' (first | with_reducible exact dt_post | with_reducible exact ih .. | with_reducible exact dt_wY_level_41 .. | with_reducible refine dt_ite (fun _ => ?_) (fun _ => ?_) | with_reducible refine dt_and (fun _ => ?_) | with_reducible refine dt_all ?_ | with_reducible refine dt_ex (fun _ => ?_) | (rintro ⟨_, _, _, _, _, _, _, _, _, _, _, _, _, _, _, _, _, _, _, _, _, _, _, _, _, _, _, _, _, _, _, _, _, _, _, _, _, _, _, _, _, _, _⟩; dsimp only))
theorem dt_wpY_level (u : SY) (p0 : Int32) : Dt (fun P => wpY_level P u p0) := by
  obtain ⟨g0, g1, g2, g3, g4, g5, g6, g7, g8, g9, g10, g11, g12, g13, g14, g15, g16, g17, g18, b0, b1, b2, b3, b4, b5, b6, b7, b8, b9, b10, b11, b12, b13, b14, b15, b16, b17, b18, b19, b20, b21, b22, b23⟩ := u
  unfold wpY_level
  dsimp only
  repeat' (first | with_reducible exact dt_post | with_reducible exact dt_wY_level_4 .. | with_reducible refine dt_ite (fun _ => ?_) (fun _ => ?_) | with_reducible refine dt_and (fun _ => ?_) | with_reducible refine dt_all ?_ | with_reducible refine dt_ex (fun _ => ?_) | (rintro ⟨_, _, _, _, _, _, _, _, _, _, _, _, _, _, _, _, _, _, _, _, _, _, _, _, _, _, _, _, _, _, _, _, _, _, _, _, _, _, _, _, _, _, _⟩; dsimp only))
theorem dt_wY_capture_11 (x1 : Int32) (f_maxWords : Int32) (f_maxFuel : Int32) (f_maxDepth : Int32) (f_maxClosures : Int32) (f_words : Int32) (f_open : Int32) (f_fn : Int32) (f_vars : Int32) (f_functions : Int32) (f_outs : Int32) (f_resKind : Int32) (f_resValue : Int32) (f_fuelLeft : Int32) (f_closuresMade : Int32) (f_nodes : Int32) (f_frames : Int32) (f_error : Int32) (f_popKind : Int32) (f_popValue : Int32) : ∀ (n : Nat) (z0 : Int32) (z1 : Int32) (z2 : (Nat → Int32)) (z3 : (Nat → Int32)) (z4 : (Nat → Int32)) (z5 : (Nat → Int32)) (z6 : (Nat → Int32)) (z7 : (Nat → Int32)) (z8 : (Nat → Int32)) (z9 : (Nat → Int32)) (z10 : (Nat → Int32)) (z11 : (Nat → Int32)) (z12 : (Nat → Int32)) (z13 : (Nat → Int32)) (z14 : (Nat → Int32)) (z15 : (Nat → Int32)) (z16 : (Nat → Int32)) (z17 : (Nat → Int32)) (z18 : (Nat → Int32)) (z19 : (Nat → Int32)) (z20 : (Nat → Int32)) (z21 : (Nat → Int32)) (z22 : (Nat → Int32)) (z23 : (Nat → Int32)) (z24 : (Nat → Int32)) (z25 : (Nat → Int32)), Dt (fun P => wY_capture_11 P x1 f_maxWords f_maxFuel f_maxDepth f_maxClosures f_words f_open f_fn f_vars f_functions f_outs f_resKind f_resValue f_fuelLeft f_closuresMade f_nodes f_frames f_error f_popKind f_popValue n z0 z1 z2 z3 z4 z5 z6 z7 z8 z9 z10 z11 z12 z13 z14 z15 z16 z17 z18 z19 z20 z21 z22 z23 z24 z25) := by
  intro n
  induction n with
  | zero =>
    intros
    intro P h
    unfold wY_capture_11 at h
    exact h.elim
  | succ n ih =>
    intros
    unfold wY_capture_11
    repeat' (first | with_reducible exact dt_post | with_reducible exact ih .. | with_reducible refine dt_ite (fun _ => ?_) (fun _ => ?_) | with_reducible refine dt_and (fun _ => ?_) | with_reducible refine dt_all ?_ | with_reducible refine dt_ex (fun _ => ?_) | (rintro ⟨_, _, _, _, _, _, _, _, _, _, _, _, _, _, _, _, _, _, _, _, _, _, _, _, _, _, _, _, _, _, _, _, _, _, _, _, _, _, _, _, _, _, _⟩; dsimp only))
theorem dt_wpY_capture (u : SY) (p0 : Int32) : Dt (fun P => wpY_capture P u p0) := by
  obtain ⟨g0, g1, g2, g3, g4, g5, g6, g7, g8, g9, g10, g11, g12, g13, g14, g15, g16, g17, g18, b0, b1, b2, b3, b4, b5, b6, b7, b8, b9, b10, b11, b12, b13, b14, b15, b16, b17, b18, b19, b20, b21, b22, b23⟩ := u
  unfold wpY_capture
  dsimp only
  repeat' (first | with_reducible exact dt_post | with_reducible refine dt_call (W := fun Q => wpY_level Q _ _) (dt_wpY_level ..) (fun _ => ?_) | with_reducible exact dt_wY_capture_11 .. | with_reducible refine dt_ite (fun _ => ?_) (fun _ => ?_) | with_reducible refine dt_and (fun _ => ?_) | with_reducible refine dt_all ?_ | with_reducible refine dt_ex (fun _ => ?_) | (rintro ⟨_, _, _, _, _, _, _, _, _, _, _, _, _, _, _, _, _, _, _, _, _, _, _, _, _, _, _, _, _, _, _, _, _, _, _, _, _, _, _, _, _, _, _⟩; dsimp only))
theorem dt_wY_read_318 (x4 : Int32) (f_maxWords : Int32) (f_maxFuel : Int32) (f_maxDepth : Int32) (f_maxClosures : Int32) (f_words : Int32) (f_open : Int32) (f_vars : Int32) (f_functions : Int32) (f_outs : Int32) (f_resKind : Int32) (f_resValue : Int32) (f_fuelLeft : Int32) (f_closuresMade : Int32) (f_nodes : Int32) (f_frames : Int32) (f_error : Int32) (f_popKind : Int32) (f_popValue : Int32) (a_wKind : Nat → Int32) (a_wArg : Nat → Int32) (a_cKind : Nat → Int32) (a_cWord : Nat → Int32) (a_cVars : Nat → Int32) (a_cOper : Nat → Int32) (a_vName : Nat → Int32) (a_capt : Nat → Int32) (a_outKind : Nat → Int32) (a_outValue : Nat → Int32) (a_clWord : Nat → Int32) (a_clEnv : Nat → Int32) (a_nName : Nat → Int32) (a_nKind : Nat → Int32) (a_nValue : Nat → Int32) (a_nPrev : Nat → Int32) (a_pc : Nat → Int32) (a_env : Nat → Int32) (a_ops : Nat → Int32) (a_blocks : Nat → Int32) (a_oKind : Nat → Int32) (a_oValue : Nat → Int32) (a_bWord : Nat → Int32) (a_bEnv : Nat → Int32) : ∀ (n : Nat) (z0 : Int32) (z1 : Int32), Dt (fun P => wY_read_318 P x4 f_maxWords f_maxFuel f_maxDepth f_maxClosures f_words f_open f_vars f_functions f_outs f_resKind f_resValue f_fuelLeft f_closuresMade f_nodes f_frames f_error f_popKind f_popValue a_wKind a_wArg a_cKind a_cWord a_cVars a_cOper a_vName a_capt a_outKind a_outValue a_clWord a_clEnv a_nName a_nKind a_nValue a_nPrev a_pc a_env a_ops a_blocks a_oKind a_oValue a_bWord a_bEnv n z0 z1) := by
  intro n
  induction n with
  | zero =>
    intros
    intro P h
    unfold wY_read_318 at h
    exact h.elim
  | succ n ih =>
    intros
    unfold wY_read_318
    repeat' (first | with_reducible exact dt_post | with_reducible exact ih .. | with_reducible refine dt_ite (fun _ => ?_) (fun _ => ?_) | with_reducible refine dt_and (fun _ => ?_) | with_reducible refine dt_all ?_ | with_reducible refine dt_ex (fun _ => ?_) | (rintro ⟨_, _, _, _, _, _, _, _, _, _, _, _, _, _, _, _, _, _, _, _, _, _, _, _, _, _, _, _, _, _, _, _, _, _, _, _, _, _, _, _, _, _, _⟩; dsimp only))
theorem dt_wY_read_281 (x2 : Int32) (x4 : Int32) (f_maxWords : Int32) (f_maxFuel : Int32) (f_maxDepth : Int32) (f_maxClosures : Int32) (f_words : Int32) (f_open : Int32) (f_fn : Int32) (f_vars : Int32) (f_functions : Int32) (f_outs : Int32) (f_resKind : Int32) (f_resValue : Int32) (f_fuelLeft : Int32) (f_closuresMade : Int32) (f_nodes : Int32) (f_frames : Int32) (f_error : Int32) (f_popKind : Int32) (f_popValue : Int32) (a_wKind : Nat → Int32) (a_wArg : Nat → Int32) (a_cKind : Nat → Int32) (a_cWord : Nat → Int32) (a_cVars : Nat → Int32) (a_cOper : Nat → Int32) (a_vName : Nat → Int32) (a_capt : Nat → Int32) (a_outKind : Nat → Int32) (a_outValue : Nat → Int32) (a_clWord : Nat → Int32) (a_clEnv : Nat → Int32) (a_nName : Nat → Int32) (a_nKind : Nat → Int32) (a_nValue : Nat → Int32) (a_nPrev : Nat → Int32) (a_pc : Nat → Int32) (a_env : Nat → Int32) (a_ops : Nat → Int32) (a_blocks : Nat → Int32) (a_oKind : Nat → Int32) (a_oValue : Nat → Int32) (a_bWord : Nat → Int32) (a_bEnv : Nat → Int32) : Dt (fun P => wY_read_281 P x2 x4 f_maxWords f_maxFuel f_maxDepth f_maxClosures f_words f_open f_fn f_vars f_functions f_outs f_resKind f_resValue f_fuelLeft f_closuresMade f_nodes f_frames f_error f_popKind f_popValue a_wKind a_wArg a_cKind a_cWord a_cVars a_cOper a_vName a_capt a_outKind a_outValue a_clWord a_clEnv a_nName a_nKind a_nValue a_nPrev a_pc a_env a_ops a_blocks a_oKind a_oValue a_bWord a_bEnv) := by
  unfold wY_read_281
  repeat' (first | with_reducible exact dt_post | with_reducible exact dt_wY_read_318 .. | with_reducible refine dt_ite (fun _ => ?_) (fun _ => ?_) | with_reducible refine dt_and (fun _ => ?_) | with_reducible refine dt_all ?_ | with_reducible refine dt_ex (fun _ => ?_) | (rintro ⟨_, _, _, _, _, _, _, _, _, _, _, _, _, _, _, _, _, _, _, _, _, _, _, _, _, _, _, _, _, _, _, _, _, _, _, _, _, _, _, _, _, _, _⟩; dsimp only))
theorem dt_wY_read_252 (x2 : Int32) (x4 : Int32) (f_maxWords : Int32) (f_maxFuel : Int32) (f_maxDepth : Int32) (f_maxClosures : Int32) (f_words : Int32) (f_open : Int32) (f_fn : Int32) (f_vars : Int32) (f_functions : Int32) (f_outs : Int32) (f_resKind : Int32) (f_resValue : Int32) (f_fuelLeft : Int32) (f_closuresMade : Int32) (f_nodes : Int32) (f_frames : Int32) (f_error : Int32) (f_popKind : Int32) (f_popValue : Int32) (a_wKind : Nat → Int32) (a_wArg : Nat → Int32) (a_cKind : Nat → Int32) (a_cWord : Nat → Int32) (a_cVars : Nat → Int32) (a_cOper : Nat → Int32) (a_vName : Nat → Int32) (a_capt : Nat → Int32) (a_outKind : Nat → Int32) (a_outValue : Nat → Int32) (a_clWord : Nat → Int32) (a_clEnv : Nat → Int32) (a_nName : Nat → Int32) (a_nKind : Nat → Int32) (a_nValue : Nat → Int32) (a_nPrev : Nat → Int32) (a_pc : Nat → Int32) (a_env : Nat → Int32) (a_ops : Nat → Int32) (a_blocks : Nat → Int32) (a_oKind : Nat → Int32) (a_oValue : Nat → Int32) (a_bWord : Nat → Int32) (a_bEnv : Nat → Int32) : Dt (fun P => wY_read_252 P x2 x4 f_maxWords f_maxFuel f_maxDepth f_maxClosures f_words f_open f_fn f_vars f_functions f_outs f_resKind f_resValue f_fuelLeft f_closuresMade f_nodes f_frames f_error f_popKind f_popValue a_wKind a_wArg a_cKind a_cWord a_cVars a_cOper a_vName a_capt a_outKind a_outValue a_clWord a_clEnv a_nName a_nKind a_nValue a_nPrev a_pc a_env a_ops a_blocks a_oKind a_oValue a_bWord a_bEnv) := by
  unfold wY_read_252
  repeat' (first | with_reducible exact dt_post | with_reducible exact dt_wY_read_281 .. | with_reducible refine dt_ite (fun _ => ?_) (fun _ => ?_) | with_reducible refine dt_and (fun _ => ?_) | with_reducible refine dt_all ?_ | with_reducible refine dt_ex (fun _ => ?_) | (rintro ⟨_, _, _, _, _, _, _, _, _, _, _, _, _, _, _, _, _, _, _, _, _, _, _, _, _, _, _, _, _, _, _, _, _, _, _, _, _, _, _, _, _, _, _⟩; dsimp only))
theorem dt_wY_read_232 (x2 : Int32) (x3 : Int32) (x4 : Int32) (f_maxWords : Int32) (f_maxFuel : Int32) (f_maxDepth : Int32) (f_maxClosures : Int32) (f_words : Int32) (f_open : Int32) (f_fn : Int32) (f_vars : Int32) (f_functions : Int32) (f_outs : Int32) (f_resKind : Int32) (f_resValue : Int32) (f_fuelLeft : Int32) (f_closuresMade : Int32) (f_nodes : Int32) (f_frames : Int32) (f_error : Int32) (f_popKind : Int32) (f_popValue : Int32) (a_wKind : Nat → Int32) (a_wArg : Nat → Int32) (a_cKind : Nat → Int32) (a_cWord : Nat → Int32) (a_cVars : Nat → Int32) (a_cOper : Nat → Int32) (a_vName : Nat → Int32) (a_capt : Nat → Int32) (a_outKind : Nat → Int32) (a_outValue : Nat → Int32) (a_clWord : Nat → Int32) (a_clEnv : Nat → Int32) (a_nName : Nat → Int32) (a_nKind : Nat → Int32) (a_nValue : Nat → Int32) (a_nPrev : Nat → Int32) (a_pc : Nat → Int32) (a_env : Nat → Int32) (a_ops : Nat → Int32) (a_blocks : Nat → Int32) (a_oKind : Nat → Int32) (a_oValue : Nat → Int32) (a_bWord : Nat → Int32) (a_bEnv : Nat → Int32) : Dt (fun P => wY_read_232 P x2 x3 x4 f_maxWords f_maxFuel f_maxDepth f_maxClosures f_words f_open f_fn f_vars f_functions f_outs f_resKind f_resValue f_fuelLeft f_closuresMade f_nodes f_frames f_error f_popKind f_popValue a_wKind a_wArg a_cKind a_cWord a_cVars a_cOper a_vName a_capt a_outKind a_outValue a_clWord a_clEnv a_nName a_nKind a_nValue a_nPrev a_pc a_env a_ops a_blocks a_oKind a_oValue a_bWord a_bEnv) := by
  unfold wY_read_232
  repeat' (first | with_reducible exact dt_post | with_reducible exact dt_wY_read_252 .. | with_reducible refine dt_ite (fun _ => ?_) (fun _ => ?_) | with_reducible refine dt_and (fun _ => ?_) | with_reducible refine dt_all ?_ | with_reducible refine dt_ex (fun _ => ?_) | (rintro ⟨_, _, _, _, _, _, _, _, _, _, _, _, _, _, _, _, _, _, _, _, _, _, _, _, _, _, _, _, _, _, _, _, _, _, _, _, _, _, _, _, _, _, _⟩; dsimp only))
theorem dt_wY_read_222 (x2 : Int32) (x3 : Int32) (x4 : Int32) (f_maxWords : Int32) (f_maxFuel : Int32) (f_maxDepth : Int32) (f_maxClosures : Int32) (f_words : Int32) (f_open : Int32) (f_fn : Int32) (f_vars : Int32) (f_functions : Int32) (f_outs : Int32) (f_resKind : Int32) (f_resValue : Int32) (f_fuelLeft : Int32) (f_closuresMade : Int32) (f_nodes : Int32) (f_frames : Int32) (f_error : Int32) (f_popKind : Int32) (f_popValue : Int32) (a_wKind : Nat → Int32) (a_wArg : Nat → Int32) (a_cKind : Nat → Int32) (a_cWord : Nat → Int32) (a_cVars : Nat → Int32) (a_cOper : Nat → Int32) (a_vName : Nat → Int32) (a_capt : Nat → Int32) (a_outKind : Nat → Int32) (a_outValue : Nat → Int32) (a_clWord : Nat → Int32) (a_clEnv : Nat → Int32) (a_nName : Nat → Int32) (a_nKind : Nat → Int32) (a_nValue : Nat → Int32) (a_nPrev : Nat → Int32) (a_pc : Nat → Int32) (a_env : Nat → Int32) (a_ops : Nat → Int32) (a_blocks : Nat → Int32) (a_oKind : Nat → Int32) (a_oValue : Nat → Int32) (a_bWord : Nat → Int32) (a_bEnv : Nat → Int32) : Dt (fun P => wY_read_222 P x2 x3 x4 f_maxWords f_maxFuel f_maxDepth f_maxClosures f_words f_open f_fn f_vars f_functions f_outs f_resKind f_resValue f_fuelLeft f_closuresMade f_nodes f_frames f_error f_popKind f_popValue a_wKind a_wArg a_cKind a_cWord a_cVars a_cOper a_vName a_capt a_outKind a_outValue a_clWord a_clEnv a_nName a_nKind a_nValue a_nPrev a_pc a_env a_ops a_blocks a_oKind a_oValue a_bWord a_bEnv) := by
  unfold wY_read_222
  repeat' (first | with_reducible exact dt_post | with_reducible exact dt_wY_read_252 .. | with_reducible exact dt_wY_read_232 .. | with_reducible refine dt_ite (fun _ => ?_) (fun _ => ?_) | with_reducible refine dt_and (fun _ => ?_) | with_reducible refine dt_all ?_ | with_reducible refine dt_ex (fun _ => ?_) | (rintro ⟨_, _, _, _, _, _, _, _, _, _, _, _, _, _, _, _, _, _, _, _, _, _, _, _, _, _, _, _, _, _, _, _, _, _, _, _, _, _, _, _, _, _, _⟩; dsimp only))
theorem dt_wY_read_207 (x2 : Int32) (x3 : Int32) (x4 : Int32) (f_maxWords : Int32) (f_maxFuel : Int32) (f_maxDepth : Int32) (f_maxClosures : Int32) (f_words : Int32) (f_open : Int32) (f_fn : Int32) (f_vars : Int32) (f_functions : Int32) (f_outs : Int32) (f_resKind : Int32) (f_resValue : Int32) (f_fuelLeft : Int32) (f_closuresMade : Int32) (f_nodes : Int32) (f_frames : Int32) (f_error : Int32) (f_popKind : Int32) (f_popValue : Int32) (a_wKind : Nat → Int32) (a_wArg : Nat → Int32) (a_cKind : Nat → Int32) (a_cWord : Nat → Int32) (a_cVars : Nat → Int32) (a_cOper : Nat → Int32) (a_vName : Nat → Int32) (a_capt : Nat → Int32) (a_outKind : Nat → Int32) (a_outValue : Nat → Int32) (a_clWord : Nat → Int32) (a_clEnv : Nat → Int32) (a_nName : Nat → Int32) (a_nKind : Nat → Int32) (a_nValue : Nat → Int32) (a_nPrev : Nat → Int32) (a_pc : Nat → Int32) (a_env : Nat → Int32) (a_ops : Nat → Int32) (a_blocks : Nat → Int32) (a_oKind : Nat → Int32) (a_oValue : Nat → Int32) (a_bWord : Nat → Int32) (a_bEnv : Nat → Int32) : Dt (fun P => wY_read_207 P x2 x3 x4 f_maxWords f_maxFuel f_maxDepth f_maxClosures f_words f_open f_fn f_vars f_functions f_outs f_resKind f_resValue f_fuelLeft f_closuresMade f_nodes f_frames f_error f_popKind f_popValue a_wKind a_wArg a_cKind a_cWord a_cVars a_cOper a_vName a_capt a_outKind a_outValue a_clWord a_clEnv a_nName a_nKind a_nValue a_nPrev a_pc a_env a_ops a_blocks a_oKind a_oValue a_bWord a_bEnv) := by
  unfold wY_read_207
  repeat' (first | with_reducible exact dt_post | with_reducible exact dt_wY_read_222 .. | with_reducible refine dt_ite (fun _ => ?_) (fun _ => ?_) | with_reducible refine dt_and (fun _ => ?_) | with_reducible refine dt_all ?_ | with_reducible refine dt_ex (fun _ => ?_) | (rintro ⟨_, _, _, _, _, _, _, _, _, _, _, _, _, _, _, _, _, _, _, _, _, _, _, _, _, _, _, _, _, _, _, _, _, _, _, _, _, _, _, _, _, _, _⟩; dsimp only))
theorem dt_wY_read_173 (x1 : Int32) (x2 : Int32) (x3 : Int32) (x4 : Int32) (z0 : Int32) (z1 : Int32) (f_maxWords : Int32) (f_maxFuel : Int32) (f_maxDepth : Int32) (f_maxClosures : Int32) (f_words : Int32) (f_open : Int32) (f_fn : Int32) (f_vars : Int32) (f_functions : Int32) (f_outs : Int32) (f_resKind : Int32) (f_resValue : Int32) (f_fuelLeft : Int32) (f_closuresMade : Int32) (f_nodes : Int32) (f_frames : Int32) (f_error : Int32) (f_popKind : Int32) (f_popValue : Int32) (a_wKind : Nat → Int32) (a_wArg : Nat → Int32) (a_cKind : Nat → Int32) (a_cWord : Nat → Int32) (a_cVars : Nat → Int32) (a_cOper : Nat → Int32) (a_vName : Nat → Int32) (a_capt : Nat → Int32) (a_outKind : Nat → Int32) (a_outValue : Nat → Int32) (a_clWord : Nat → Int32) (a_clEnv : Nat → Int32) (a_nName : Nat → Int32) (a_nKind : Nat → Int32) (a_nValue : Nat → Int32) (a_nPrev : Nat → Int32) (a_pc : Nat → Int32) (a_env : Nat → Int32) (a_ops : Nat → Int32) (a_blocks : Nat → Int32) (a_oKind : Nat → Int32) (a_oValue : Nat → Int32) (a_bWord : Nat → Int32) (a_bEnv : Nat → Int32) : Dt (fun P => wY_read_173 P x1 x2 x3 x4 z0 z1 f_maxWords f_maxFuel f_maxDepth f_maxClosures f_words f_open f_fn f_vars f_functions f_outs f_resKind f_resValue f_fuelLeft f_closuresMade f_nodes f_frames f_error f_popKind f_popValue a_wKind a_wArg a_cKind a_cWord a_cVars a_cOper a_vName a_capt a_outKind a_outValue a_clWord a_clEnv a_nName a_nKind a_nValue a_nPrev a_pc a_env a_ops a_blocks a_oKind a_oValue a_bWord a_bEnv) := by
  unfold wY_read_173
  repeat' (first | with_reducible exact dt_post | with_reducible exact dt_wY_read_207 .. | with_reducible refine dt_ite (fun _ => ?_) (fun _ => ?_) | with_reducible refine dt_and (fun _ => ?_) | with_reducible refine dt_all ?_ | with_reducible refine dt_ex (fun _ => ?_) | (rintro ⟨_, _, _, _, _, _, _, _, _, _, _, _, _, _, _, _, _, _, _, _, _, _, _, _, _, _, _, _, _, _, _, _, _, _, _, _, _, _, _, _, _, _, _⟩; dsimp only))
theorem dt_wY_read_145 (x1 : Int32) (x2 : Int32) (x3 : Int32) (x4 : Int32) (f_maxWords : Int32) (f_maxFuel : Int32) (f_maxDepth : Int32) (f_maxClosures : Int32) (f_words : Int32) (f_open : Int32) (f_fn : Int32) (f_vars : Int32) (f_functions : Int32) (f_outs : Int32) (f_resKind : Int32) (f_resValue : Int32) (f_fuelLeft : Int32) (f_closuresMade : Int32) (f_nodes : Int32) (f_frames : Int32) (f_error : Int32) (f_popKind : Int32) (f_popValue : Int32) (a_wKind : Nat → Int32) (a_wArg : Nat → Int32) (a_cKind : Nat → Int32) (a_cWord : Nat → Int32) (a_cVars : Nat → Int32) (a_cOper : Nat → Int32) (a_vName : Nat → Int32) (a_capt : Nat → Int32) (a_outKind : Nat → Int32) (a_outValue : Nat → Int32) (a_clWord : Nat → Int32) (a_clEnv : Nat → Int32) (a_nName : Nat → Int32) (a_nKind : Nat → Int32) (a_nValue : Nat → Int32) (a_nPrev : Nat → Int32) (a_pc : Nat → Int32) (a_env : Nat → Int32) (a_ops : Nat → Int32) (a_blocks : Nat → Int32) (a_oKind : Nat → Int32) (a_oValue : Nat → Int32) (a_bWord : Nat → Int32) (a_bEnv : Nat → Int32) : Dt (fun P => wY_read_145 P x1 x2 x3 x4 f_maxWords f_maxFuel f_maxDepth f_maxClosures f_words f_open f_fn f_vars f_functions f_outs f_resKind f_resValue f_fuelLeft f_closuresMade f_nodes f_frames f_error f_popKind f_popValue a_wKind a_wArg a_cKind a_cWord a_cVars a_cOper a_vName a_capt a_outKind a_outValue a_clWord a_clEnv a_nName a_nKind a_nValue a_nPrev a_pc a_env a_ops a_blocks a_oKind a_oValue a_bWord a_bEnv) := by
  unfold wY_read_145
  repeat' (first | with_reducible exact dt_post | with_reducible exact dt_wY_read_173 .. | with_reducible refine dt_ite (fun _ => ?_) (fun _ => ?_) | with_reducible refine dt_and (fun _ => ?_) | with_reducible refine dt_all ?_ | with_reducible refine dt_ex (fun _ => ?_) | (rintro ⟨_, _, _, _, _, _, _, _, _, _, _, _, _, _, _, _, _, _, _, _, _, _, _, _, _, _, _, _, _, _, _, _, _, _, _, _, _, _, _, _, _, _, _⟩; dsimp only))
theorem dt_wY_read_134 (x1 : Int32) (x2 : Int32) (x3 : Int32) (x4 : Int32) (f_maxWords : Int32) (f_maxFuel : Int32) (f_maxDepth : Int32) (f_maxClosures : Int32) (f_words : Int32) (f_open : Int32) (f_fn : Int32) (f_vars : Int32) (f_functions : Int32) (f_outs : Int32) (f_resKind : Int32) (f_resValue : Int32) (f_fuelLeft : Int32) (f_closuresMade : Int32) (f_nodes : Int32) (f_frames : Int32) (f_error : Int32) (f_popKind : Int32) (f_popValue : Int32) (a_wKind : Nat → Int32) (a_wArg : Nat → Int32) (a_cKind : Nat → Int32) (a_cWord : Nat → Int32) (a_cVars : Nat → Int32) (a_cOper : Nat → Int32) (a_vName : Nat → Int32) (a_capt : Nat → Int32) (a_outKind : Nat → Int32) (a_outValue : Nat → Int32) (a_clWord : Nat → Int32) (a_clEnv : Nat → Int32) (a_nName : Nat → Int32) (a_nKind : Nat → Int32) (a_nValue : Nat → Int32) (a_nPrev : Nat → Int32) (a_pc : Nat → Int32) (a_env : Nat → Int32) (a_ops : Nat → Int32) (a_blocks : Nat → Int32) (a_oKind : Nat → Int32) (a_oValue : Nat → Int32) (a_bWord : Nat → Int32) (a_bEnv : Nat → Int32) : Dt (fun P => wY_read_134 P x1 x2 x3 x4 f_maxWords f_maxFuel f_maxDepth f_maxClosures f_words f_open f_fn f_vars f_functions f_outs f_resKind f_resValue f_fuelLeft f_closuresMade f_nodes f_frames f_error f_popKind f_popValue a_wKind a_wArg a_cKind a_cWord a_cVars a_cOper a_vName a_capt a_outKind a_outValue a_clWord a_clEnv a_nName a_nKind a_nValue a_nPrev a_pc a_env a_ops a_blocks a_oKind a_oValue a_bWord a_bEnv) := by
  unfold wY_read_134
  repeat' (first | with_reducible exact dt_post | with_reducible exact dt_wY_read_207 .. | with_reducible exact dt_wY_read_145 .. | with_reducible refine dt_ite (fun _ => ?_) (fun _ => ?_) | with_reducible refine dt_and (fun _ => ?_) | with_reducible refine dt_all ?_ | with_reducible refine dt_ex (fun _ => ?_) | (rintro ⟨_, _, _, _, _, _, _, _, _, _, _, _, _, _, _, _, _, _, _, _, _, _, _, _, _, _, _, _, _, _, _, _, _, _, _, _, _, _, _, _, _, _, _⟩; dsimp only))
theorem dt_wY_read_129 (x1 : Int32) (x2 : Int32) (x3 : Int32) (x4 : Int32) (f_maxWords : Int32) (f_maxFuel : Int32) (f_maxDepth : Int32) (f_maxClosures : Int32) (f_words : Int32) (f_open : Int32) (f_fn : Int32) (f_vars : Int32) (f_functions : Int32) (f_outs : Int32) (f_resKind : Int32) (f_resValue : Int32) (f_fuelLeft : Int32) (f_closuresMade : Int32) (f_nodes : Int32) (f_frames : Int32) (f_error : Int32) (f_popKind : Int32) (f_popValue : Int32) (a_wKind : Nat → Int32) (a_wArg : Nat → Int32) (a_cKind : Nat → Int32) (a_cWord : Nat → Int32) (a_cVars : Nat → Int32) (a_cOper : Nat → Int32) (a_vName : Nat → Int32) (a_capt : Nat → Int32) (a_outKind : Nat → Int32) (a_outValue : Nat → Int32) (a_clWord : Nat → Int32) (a_clEnv : Nat → Int32) (a_nName : Nat → Int32) (a_nKind : Nat → Int32) (a_nValue : Nat → Int32) (a_nPrev : Nat → Int32) (a_pc : Nat → Int32) (a_env : Nat → Int32) (a_ops : Nat → Int32) (a_blocks : Nat → Int32) (a_oKind : Nat → Int32) (a_oValue : Nat → Int32) (a_bWord : Nat → Int32) (a_bEnv : Nat → Int32) : Dt (fun P => wY_read_129 P x1 x2 x3 x4 f_maxWords f_maxFuel f_maxDepth f_maxClosures f_words f_open f_fn f_vars f_functions f_outs f_resKind f_resValue f_fuelLeft f_closuresMade f_nodes f_frames f_error f_popKind f_popValue a_wKind a_wArg a_cKind a_cWord a_cVars a_cOper a_vName a_capt a_outKind a_outValue a_clWord a_clEnv a_nName a_nKind a_nValue a_nPrev a_pc a_env a_ops a_blocks a_oKind a_oValue a_bWord a_bEnv) := by
  unfold wY_read_129
  repeat' (first | with_reducible exact dt_post | with_reducible refine dt_call (W := fun Q => wpY_capture Q _ _) (dt_wpY_capture ..) ?_ | with_reducible exact dt_wY_read_134 .. | with_reducible refine dt_ite (fun _ => ?_) (fun _ => ?_) | with_reducible refine dt_and (fun _ => ?_) | with_reducible refine dt_all ?_ | with_reducible refine dt_ex (fun _ => ?_) | (rintro ⟨_, _, _, _, _, _, _, _, _, _, _, _, _, _, _, _, _, _, _, _, _, _, _, _, _, _, _, _, _, _, _, _, _, _, _, _, _, _, _, _, _, _, _⟩; dsimp only))
theorem dt_wY_read_118 (x1 : Int32) (x2 : Int32) (x3 : Int32) (x4 : Int32) (f_maxWords : Int32) (f_maxFuel : Int32) (f_maxDepth : Int32) (f_maxClosures : Int32) (f_words : Int32) (f_open : Int32) (f_fn : Int32) (f_vars : Int32) (f_functions : Int32) (f_outs : Int32) (f_resKind : Int32) (f_resValue : Int32) (f_fuelLeft : Int32) (f_closuresMade : Int32) (f_nodes : Int32) (f_frames : Int32) (f_error : Int32) (f_popKind : Int32) (f_popValue : Int32) (a_wKind : Nat → Int32) (a_wArg : Nat → Int32) (a_cKind : Nat → Int32) (a_cWord : Nat → Int32) (a_cVars : Nat → Int32) (a_cOper : Nat → Int32) (a_vName : Nat → Int32) (a_capt : Nat → Int32) (a_outKind : Nat → Int32) (a_outValue : Nat → Int32) (a_clWord : Nat → Int32) (a_clEnv : Nat → Int32) (a_nName : Nat → Int32) (a_nKind : Nat → Int32) (a_nValue : Nat → Int32) (a_nPrev : Nat → Int32) (a_pc : Nat → Int32) (a_env : Nat → Int32) (a_ops : Nat → Int32) (a_blocks : Nat → Int32) (a_oKind : Nat → Int32) (a_oValue : Nat → Int32) (a_bWord : Nat → Int32) (a_bEnv : Nat → Int32) : Dt (fun P => wY_read_118 P x1 x2 x3 x4 f_maxWords f_maxFuel f_maxDepth f_maxClosures f_words f_open f_fn f_vars f_functions f_outs f_resKind f_resValue f_fuelLeft f_closuresMade f_nodes f_frames f_error f_popKind f_popValue a_wKind a_wArg a_cKind a_cWord a_cVars a_cOper a_vName a_capt a_outKind a_outValue a_clWord a_clEnv a_nName a_nKind a_nValue a_nPrev a_pc a_env a_ops a_blocks a_oKind a_oValue a_bWord a_bEnv) := by
  unfold wY_read_118
  repeat' (first | with_reducible exact dt_post | with_reducible exact dt_wY_read_134 .. | with_reducible exact dt_wY_read_129 .. | with_reducible refine dt_ite (fun _ => ?_) (fun _ => ?_) | with_reducible refine dt_and (fun _ => ?_) | with_reducible refine dt_all ?_ | with_reducible refine dt_ex (fun _ => ?_) | (rintro ⟨_, _, _, _, _, _, _, _, _, _, _, _, _, _, _, _, _, _, _, _, _, _, _, _, _, _, _, _, _, _, _, _, _, _, _, _, _, _, _, _, _, _, _⟩; dsimp only))
theorem dt_wY_read_108 (x1 : Int32) (x2 : Int32) (x3 : Int32) (x4 : Int32) (f_maxWords : Int32) (f_maxFuel : Int32) (f_maxDepth : Int32) (f_maxClosures : Int32) (f_words : Int32) (f_open : Int32) (f_fn : Int32) (f_vars : Int32) (f_functions : Int32) (f_outs : Int32) (f_resKind : Int32) (f_resValue : Int32) (f_fuelLeft : Int32) (f_closuresMade : Int32) (f_nodes : Int32) (f_frames : Int32) (f_error : Int32) (f_popKind : Int32) (f_popValue : Int32) (a_wKind : Nat → Int32) (a_wArg : Nat → Int32) (a_cKind : Nat → Int32) (a_cWord : Nat → Int32) (a_cVars : Nat → Int32) (a_cOper : Nat → Int32) (a_vName : Nat → Int32) (a_capt : Nat → Int32) (a_outKind : Nat → Int32) (a_outValue : Nat → Int32) (a_clWord : Nat → Int32) (a_clEnv : Nat → Int32) (a_nName : Nat → Int32) (a_nKind : Nat → Int32) (a_nValue : Nat → Int32) (a_nPrev : Nat → Int32) (a_pc : Nat → Int32) (a_env : Nat → Int32) (a_ops : Nat → Int32) (a_blocks : Nat → Int32) (a_oKind : Nat → Int32) (a_oValue : Nat → Int32) (a_bWord : Nat → Int32) (a_bEnv : Nat → Int32) : Dt (fun P => wY_read_108 P x1 x2 x3 x4 f_maxWords f_maxFuel f_maxDepth f_maxClosures f_words f_open f_fn f_vars f_functions f_outs f_resKind f_resValue f_fuelLeft f_closuresMade f_nodes f_frames f_error f_popKind f_popValue a_wKind a_wArg a_cKind a_cWord a_cVars a_cOper a_vName a_capt a_outKind a_outValue a_clWord a_clEnv a_nName a_nKind a_nValue a_nPrev a_pc a_env a_ops a_blocks a_oKind a_oValue a_bWord a_bEnv) := by
  unfold wY_read_108
  repeat' (first | with_reducible exact dt_post | with_reducible exact dt_wY_read_118 .. | with_reducible refine dt_ite (fun _ => ?_) (fun _ => ?_) | with_reducible refine dt_and (fun _ => ?_) | with_reducible refine dt_all ?_ | with_reducible refine dt_ex (fun _ => ?_) | (rintro ⟨_, _, _, _, _, _, _, _, _, _, _, _, _, _, _, _, _, _, _, _, _, _, _, _, _, _, _, _, _, _, _, _, _, _, _, _, _, _, _, _, _, _, _⟩; dsimp only))
theorem dt_wY_read_85 (x1 : Int32) (x2 : Int32) (x3 : Int32) (x4 : Int32) (f_maxWords : Int32) (f_maxFuel : Int32) (f_maxDepth : Int32) (f_maxClosures : Int32) (f_words : Int32) (f_open : Int32) (f_fn : Int32) (f_vars : Int32) (f_functions : Int32) (f_outs : Int32) (f_resKind : Int32) (f_resValue : Int32) (f_fuelLeft : Int32) (f_closuresMade : Int32) (f_nodes : Int32) (f_frames : Int32) (f_error : Int32) (f_popKind : Int32) (f_popValue : Int32) (a_wKind : Nat → Int32) (a_wArg : Nat → Int32) (a_cKind : Nat → Int32) (a_cWord : Nat → Int32) (a_cVars : Nat → Int32) (a_cOper : Nat → Int32) (a_vName : Nat → Int32) (a_capt : Nat → Int32) (a_outKind : Nat → Int32) (a_outValue : Nat → Int32) (a_clWord : Nat → Int32) (a_clEnv : Nat → Int32) (a_nName : Nat → Int32) (a_nKind : Nat → Int32) (a_nValue : Nat → Int32) (a_nPrev : Nat → Int32) (a_pc : Nat → Int32) (a_env : Nat → Int32) (a_ops : Nat → Int32) (a_blocks : Nat → Int32) (a_oKind : Nat → Int32) (a_oValue : Nat → Int32) (a_bWord : Nat → Int32) (a_bEnv : Nat → Int32) : Dt (fun P => wY_read_85 P x1 x2 x3 x4 f_maxWords f_maxFuel f_maxDepth f_maxClosures f_words f_open f_fn f_vars f_functions f_outs f_resKind f_resValue f_fuelLeft f_closuresMade f_nodes f_frames f_error f_popKind f_popValue a_wKind a_wArg a_cKind a_cWord a_cVars a_cOper a_vName a_capt a_outKind a_outValue a_clWord a_clEnv a_nName a_nKind a_nValue a_nPrev a_pc a_env a_ops a_blocks a_oKind a_oValue a_bWord a_bEnv) := by
  unfold wY_read_85
  repeat' (first | with_reducible exact dt_post | with_reducible exact dt_wY_read_118 .. | with_reducible exact dt_wY_read_108 .. | with_reducible refine dt_ite (fun _ => ?_) (fun _ => ?_) | with_reducible refine dt_and (fun _ => ?_) | with_reducible refine dt_all ?_ | with_reducible refine dt_ex (fun _ => ?_) | (rintro ⟨_, _, _, _, _, _, _, _, _, _, _, _, _, _, _, _, _, _, _, _, _, _, _, _, _, _, _, _, _, _, _, _, _, _, _, _, _, _, _, _, _, _, _⟩; dsimp only))
theorem dt_wY_read_72 (x1 : Int32) (x2 : Int32) (x3 : Int32) (x4 : Int32) (f_maxWords : Int32) (f_maxFuel : Int32) (f_maxDepth : Int32) (f_maxClosures : Int32) (f_words : Int32) (f_open : Int32) (f_fn : Int32) (f_vars : Int32) (f_functions : Int32) (f_outs : Int32) (f_resKind : Int32) (f_resValue : Int32) (f_fuelLeft : Int32) (f_closuresMade : Int32) (f_nodes : Int32) (f_frames : Int32) (f_error : Int32) (f_popKind : Int32) (f_popValue : Int32) (a_wKind : Nat → Int32) (a_wArg : Nat → Int32) (a_cKind : Nat → Int32) (a_cWord : Nat → Int32) (a_cVars : Nat → Int32) (a_cOper : Nat → Int32) (a_vName : Nat → Int32) (a_capt : Nat → Int32) (a_outKind : Nat → Int32) (a_outValue : Nat → Int32) (a_clWord : Nat → Int32) (a_clEnv : Nat → Int32) (a_nName : Nat → Int32) (a_nKind : Nat → Int32) (a_nValue : Nat → Int32) (a_nPrev : Nat → Int32) (a_pc : Nat → Int32) (a_env : Nat → Int32) (a_ops : Nat → Int32) (a_blocks : Nat → Int32) (a_oKind : Nat → Int32) (a_oValue : Nat → Int32) (a_bWord : Nat → Int32) (a_bEnv : Nat → Int32) : Dt (fun P => wY_read_72 P x1 x2 x3 x4 f_maxWords f_maxFuel f_maxDepth f_maxClosures f_words f_open f_fn f_vars f_functions f_outs f_resKind f_resValue f_fuelLeft f_closuresMade f_nodes f_frames f_error f_popKind f_popValue a_wKind a_wArg a_cKind a_cWord a_cVars a_cOper a_vName a_capt a_outKind a_outValue a_clWord a_clEnv a_nName a_nKind a_nValue a_nPrev a_pc a_env a_ops a_blocks a_oKind a_oValue a_bWord a_bEnv) := by
  unfold wY_read_72
  repeat' (first | with_reducible exact dt_post | with_reducible exact dt_wY_read_85 .. | with_reducible refine dt_ite (fun _ => ?_) (fun _ => ?_) | with_reducible refine dt_and (fun _ => ?_) | with_reducible refine dt_all ?_ | with_reducible refine dt_ex (fun _ => ?_) | (rintro ⟨_, _, _, _, _, _, _, _, _, _, _, _, _, _, _, _, _, _, _, _, _, _, _, _, _, _, _, _, _, _, _, _, _, _, _, _, _, _, _, _, _, _, _⟩; dsimp only))
theorem dt_wY_read_62 (x1 : Int32) (x2 : Int32) (x3 : Int32) (x4 : Int32) (f_maxWords : Int32) (f_maxFuel : Int32) (f_maxDepth : Int32) (f_maxClosures : Int32) (f_words : Int32) (f_open : Int32) (f_fn : Int32) (f_vars : Int32) (f_functions : Int32) (f_outs : Int32) (f_resKind : Int32) (f_resValue : Int32) (f_fuelLeft : Int32) (f_closuresMade : Int32) (f_nodes : Int32) (f_frames : Int32) (f_error : Int32) (f_popKind : Int32) (f_popValue : Int32) (a_wKind : Nat → Int32) (a_wArg : Nat → Int32) (a_cKind : Nat → Int32) (a_cWord : Nat → Int32) (a_cVars : Nat → Int32) (a_cOper : Nat → Int32) (a_vName : Nat → Int32) (a_capt : Nat → Int32) (a_outKind : Nat → Int32) (a_outValue : Nat → Int32) (a_clWord : Nat → Int32) (a_clEnv : Nat → Int32) (a_nName : Nat → Int32) (a_nKind : Nat → Int32) (a_nValue : Nat → Int32) (a_nPrev : Nat → Int32) (a_pc : Nat → Int32) (a_env : Nat → Int32) (a_ops : Nat → Int32) (a_blocks : Nat → Int32) (a_oKind : Nat → Int32) (a_oValue : Nat → Int32) (a_bWord : Nat → Int32) (a_bEnv : Nat → Int32) : Dt (fun P => wY_read_62 P x1 x2 x3 x4 f_maxWords f_maxFuel f_maxDepth f_maxClosures f_words f_open f_fn f_vars f_functions f_outs f_resKind f_resValue f_fuelLeft f_closuresMade f_nodes f_frames f_error f_popKind f_popValue a_wKind a_wArg a_cKind a_cWord a_cVars a_cOper a_vName a_capt a_outKind a_outValue a_clWord a_clEnv a_nName a_nKind a_nValue a_nPrev a_pc a_env a_ops a_blocks a_oKind a_oValue a_bWord a_bEnv) := by
  unfold wY_read_62
  repeat' (first | with_reducible exact dt_post | with_reducible exact dt_wY_read_85 .. | with_reducible exact dt_wY_read_72 .. | with_reducible refine dt_ite (fun _ => ?_) (fun _ => ?_) | with_reducible refine dt_and (fun _ => ?_) | with_reducible refine dt_all ?_ | with_reducible refine dt_ex (fun _ => ?_) | (rintro ⟨_, _, _, _, _, _, _, _, _, _, _, _, _, _, _, _, _, _, _, _, _, _, _, _, _, _, _, _, _, _, _, _, _, _, _, _, _, _, _, _, _, _, _⟩; dsimp only))
theorem dt_wY_read_49 (x1 : Int32) (x2 : Int32) (x3 : Int32) (x4 : Int32) (f_maxWords : Int32) (f_maxFuel : Int32) (f_maxDepth : Int32) (f_maxClosures : Int32) (f_words : Int32) (f_open : Int32) (f_fn : Int32) (f_vars : Int32) (f_functions : Int32) (f_outs : Int32) (f_resKind : Int32) (f_resValue : Int32) (f_fuelLeft : Int32) (f_closuresMade : Int32) (f_nodes : Int32) (f_frames : Int32) (f_error : Int32) (f_popKind : Int32) (f_popValue : Int32) (a_wKind : Nat → Int32) (a_wArg : Nat → Int32) (a_cKind : Nat → Int32) (a_cWord : Nat → Int32) (a_cVars : Nat → Int32) (a_cOper : Nat → Int32) (a_vName : Nat → Int32) (a_capt : Nat → Int32) (a_outKind : Nat → Int32) (a_outValue : Nat → Int32) (a_clWord : Nat → Int32) (a_clEnv : Nat → Int32) (a_nName : Nat → Int32) (a_nKind : Nat → Int32) (a_nValue : Nat → Int32) (a_nPrev : Nat → Int32) (a_pc : Nat → Int32) (a_env : Nat → Int32) (a_ops : Nat → Int32) (a_blocks : Nat → Int32) (a_oKind : Nat → Int32) (a_oValue : Nat → Int32) (a_bWord : Nat → Int32) (a_bEnv : Nat → Int32) : Dt (fun P => wY_read_49 P x1 x2 x3 x4 f_maxWords f_maxFuel f_maxDepth f_maxClosures f_words f_open f_fn f_vars f_functions f_outs f_resKind f_resValue f_fuelLeft f_closuresMade f_nodes f_frames f_error f_popKind f_popValue a_wKind a_wArg a_cKind a_cWord a_cVars a_cOper a_vName a_capt a_outKind a_outValue a_clWord a_clEnv a_nName a_nKind a_nValue a_nPrev a_pc a_env a_ops a_blocks a_oKind a_oValue a_bWord a_bEnv) := by
  unfold wY_read_49
  repeat' (first | with_reducible exact dt_post | with_reducible exact dt_wY_read_62 .. | with_reducible refine dt_ite (fun _ => ?_) (fun _ => ?_) | with_reducible refine dt_and (fun _ => ?_) | with_reducible refine dt_all ?_ | with_reducible refine dt_ex (fun _ => ?_) | (rintro ⟨_, _, _, _, _, _, _, _, _, _, _, _, _, _, _, _, _, _, _, _, _, _, _, _, _, _, _, _, _, _, _, _, _, _, _, _, _, _, _, _, _, _, _⟩; dsimp only))
theorem dt_wY_read_38 (x1 : Int32) (x2 : Int32) (x3 : Int32) (z0 : Int32) (f_maxWords : Int32) (f_maxFuel : Int32) (f_maxDepth : Int32) (f_maxClosures : Int32) (f_words : Int32) (f_open : Int32) (f_fn : Int32) (f_vars : Int32) (f_functions : Int32) (f_outs : Int32) (f_resKind : Int32) (f_resValue : Int32) (f_fuelLeft : Int32) (f_closuresMade : Int32) (f_nodes : Int32) (f_frames : Int32) (f_error : Int32) (f_popKind : Int32) (f_popValue : Int32) (a_wKind : Nat → Int32) (a_wArg : Nat → Int32) (a_cKind : Nat → Int32) (a_cWord : Nat → Int32) (a_cVars : Nat → Int32) (a_cOper : Nat → Int32) (a_vName : Nat → Int32) (a_capt : Nat → Int32) (a_outKind : Nat → Int32) (a_outValue : Nat → Int32) (a_clWord : Nat → Int32) (a_clEnv : Nat → Int32) (a_nName : Nat → Int32) (a_nKind : Nat → Int32) (a_nValue : Nat → Int32) (a_nPrev : Nat → Int32) (a_pc : Nat → Int32) (a_env : Nat → Int32) (a_ops : Nat → Int32) (a_blocks : Nat → Int32) (a_oKind : Nat → Int32) (a_oValue : Nat → Int32) (a_bWord : Nat → Int32) (a_bEnv : Nat → Int32) : Dt (fun P => wY_read_38 P x1 x2 x3 z0 f_maxWords f_maxFuel f_maxDepth f_maxClosures f_words f_open f_fn f_vars f_functions f_outs f_resKind f_resValue f_fuelLeft f_closuresMade f_nodes f_frames f_error f_popKind f_popValue a_wKind a_wArg a_cKind a_cWord a_cVars a_cOper a_vName a_capt a_outKind a_outValue a_clWord a_clEnv a_nName a_nKind a_nValue a_nPrev a_pc a_env a_ops a_blocks a_oKind a_oValue a_bWord a_bEnv) := by
  unfold wY_read_38
  repeat' (first | with_reducible exact dt_post | with_reducible exact dt_wY_read_62 .. | with_reducible exact dt_wY_read_49 .. | with_reducible refine dt_ite (fun _ => ?_) (fun _ => ?_) | with_reducible refine dt_and (fun _ => ?_) | with_reducible refine dt_all ?_ | with_reducible refine dt_ex (fun _ => ?_) | (rintro ⟨_, _, _, _, _, _, _, _, _, _, _, _, _, _, _, _, _, _, _, _, _, _, _, _, _, _, _, _, _, _, _, _, _, _, _, _, _, _, _, _, _, _, _⟩; dsimp only))
theorem dt_wY_read_37 (x1 : Int32) (x2 : Int32) (x3 : Int32) (f_maxWords : Int32) (f_maxFuel : Int32) (f_maxDepth : Int32) (f_maxClosures : Int32) (f_words : Int32) (f_open : Int32) (f_fn : Int32) (f_vars : Int32) (f_functions : Int32) (f_outs : Int32) (f_resKind : Int32) (f_resValue : Int32) (f_fuelLeft : Int32) (f_closuresMade : Int32) (f_nodes : Int32) (f_frames : Int32) (f_error : Int32) (f_popKind : Int32) (f_popValue : Int32) (a_wKind : Nat → Int32) (a_wArg : Nat → Int32) (a_cKind : Nat → Int32) (a_cWord : Nat → Int32) (a_cVars : Nat → Int32) (a_cOper : Nat → Int32) (a_vName : Nat → Int32) (a_capt : Nat → Int32) (a_outKind : Nat → Int32) (a_outValue : Nat → Int32) (a_clWord : Nat → Int32) (a_clEnv : Nat → Int32) (a_nName : Nat → Int32) (a_nKind : Nat → Int32) (a_nValue : Nat → Int32) (a_nPrev : Nat → Int32) (a_pc : Nat → Int32) (a_env : Nat → Int32) (a_ops : Nat → Int32) (a_blocks : Nat → Int32) (a_oKind : Nat → Int32) (a_oValue : Nat → Int32) (a_bWord : Nat → Int32) (a_bEnv : Nat → Int32) : Dt (fun P => wY_read_37 P x1 x2 x3 f_maxWords f_maxFuel f_maxDepth f_maxClosures f_words f_open f_fn f_vars f_functions f_outs f_resKind f_resValue f_fuelLeft f_closuresMade f_nodes f_frames f_error f_popKind f_popValue a_wKind a_wArg a_cKind a_cWord a_cVars a_cOper a_vName a_capt a_outKind a_outValue a_clWord a_clEnv a_nName a_nKind a_nValue a_nPrev a_pc a_env a_ops a_blocks a_oKind a_oValue a_bWord a_bEnv) := by
  unfold wY_read_37
  repeat' (first | with_reducible exact dt_post | with_reducible exact dt_wY_read_38 .. | with_reducible refine dt_ite (fun _ => ?_) (fun _ => ?_) | with_reducible refine dt_and (fun _ => ?_) | with_reducible refine dt_all ?_ | with_reducible refine dt_ex (fun _ => ?_) | (rintro ⟨_, _, _, _, _, _, _, _, _, _, _, _, _, _, _, _, _, _, _, _, _, _, _, _, _, _, _, _, _, _, _, _, _, _, _, _, _, _, _, _, _, _, _⟩; dsimp only))
theorem dt_wpY_read (u : SY) (p0 : Int32) : Dt (fun P => wpY_read P u p0) := by
  obtain ⟨g0, g1, g2, g3, g4, g5, g6, g7, g8, g9, g10, g11, g12, g13, g14, g15, g16, g17, g18, b0, b1, b2, b3, b4, b5, b6, b7, b8, b9, b10, b11, b12, b13, b14, b15, b16, b17, b18, b19, b20, b21, b22, b23⟩ := u
  unfold wpY_read
  dsimp only
  repeat' (first | with_reducible exact dt_post | with_reducible exact dt_wY_read_38 .. | with_reducible exact dt_wY_read_37 .. | with_reducible refine dt_ite (fun _ => ?_) (fun _ => ?_) | with_reducible refine dt_and (fun _ => ?_) | with_reducible refine dt_all ?_ | with_reducible refine dt_ex (fun _ => ?_) | (rintro ⟨_, _, _, _, _, _, _, _, _, _, _, _, _, _, _, _, _, _, _, _, _, _, _, _, _, _, _, _, _, _, _, _, _, _, _, _, _, _, _, _, _, _, _⟩; dsimp only))
theorem dt_wY_scan_65  : ∀ (n : Nat) (z0 : Int32) (z1 : Int32) (z2 : Int32) (z3 : Int32) (z4 : Int32) (z5 : Int32) (z6 : Int32) (z7 : Int32) (z8 : Int32) (z9 : Int32) (z10 : Int32) (z11 : Int32) (z12 : Int32) (z13 : Int32) (z14 : Int32) (z15 : Int32) (z16 : Int32) (z17 : Int32) (z18 : Int32) (z19 : Int32) (z20 : (Nat → Int32)) (z21 : (Nat → Int32)) (z22 : (Nat → Int32)) (z23 : (Nat → Int32)) (z24 : (Nat → Int32)) (z25 : (Nat → Int32)) (z26 : (Nat → Int32)) (z27 : (Nat → Int32)) (z28 : (Nat → Int32)) (z29 : (Nat → Int32)) (z30 : (Nat → Int32)) (z31 : (Nat → Int32)) (z32 : (Nat → Int32)) (z33 : (Nat → Int32)) (z34 : (Nat → Int32)) (z35 : (Nat → Int32)) (z36 : (Nat → Int32)) (z37 : (Nat → Int32)) (z38 : (Nat → Int32)) (z39 : (Nat → Int32)) (z40 : (Nat → Int32)) (z41 : (Nat → Int32)) (z42 : (Nat → Int32)) (z43 : (Nat → Int32)), Dt (fun P => wY_scan_65 P  n z0 z1 z2 z3 z4 z5 z6 z7 z8 z9 z10 z11 z12 z13 z14 z15 z16 z17 z18 z19 z20 z21 z22 z23 z24 z25 z26 z27 z28 z29 z30 z31 z32 z33 z34 z35 z36 z37 z38 z39 z40 z41 z42 z43) := by
  intro n
  induction n with
  | zero =>
    intros
    intro P h
    unfold wY_scan_65 at h
    exact h.elim
  | succ n ih =>
    intros
    unfold wY_scan_65
    repeat' (first | with_reducible exact dt_post | with_reducible exact ih .. | with_reducible refine dt_call (W := fun Q => wpY_read Q _ _) (dt_wpY_read ..) ?_ | with_reducible refine dt_ite (fun _ => ?_) (fun _ => ?_) | with_reducible refine dt_and (fun _ => ?_) | with_reducible refine dt_all ?_ | with_reducible refine dt_ex (fun _ => ?_) | (rintro ⟨_, _, _, _, _, _, _, _, _, _, _, _, _, _, _, _, _, _, _, _, _, _, _, _, _, _, _, _, _, _, _, _, _, _, _, _, _, _, _, _, _, _, _⟩; dsimp only))
theorem dt_wY_scan_2 (f_maxWords : Int32) (f_maxFuel : Int32) (f_maxDepth : Int32) (f_maxClosures : Int32) (f_words : Int32) (f_open : Int32) (f_fn : Int32) (f_vars : Int32) (f_functions : Int32) (f_outs : Int32) (f_resKind : Int32) (f_resValue : Int32) (f_fuelLeft : Int32) (f_closuresMade : Int32) (f_nodes : Int32) (f_frames : Int32) (f_error : Int32) (f_popKind : Int32) (f_popValue : Int32) : ∀ (n : Nat) (z0 : Int32) (z1 : (Nat → Int32)) (z2 : (Nat → Int32)) (z3 : (Nat → Int32)) (z4 : (Nat → Int32)) (z5 : (Nat → Int32)) (z6 : (Nat → Int32)) (z7 : (Nat → Int32)) (z8 : (Nat → Int32)) (z9 : (Nat → Int32)) (z10 : (Nat → Int32)) (z11 : (Nat → Int32)) (z12 : (Nat → Int32)) (z13 : (Nat → Int32)) (z14 : (Nat → Int32)) (z15 : (Nat → Int32)) (z16 : (Nat → Int32)) (z17 : (Nat → Int32)) (z18 : (Nat → Int32)) (z19 : (Nat → Int32)) (z20 : (Nat → Int32)) (z21 : (Nat → Int32)) (z22 : (Nat → Int32)) (z23 : (Nat → Int32)) (z24 : (Nat → Int32)), Dt (fun P => wY_scan_2 P f_maxWords f_maxFuel f_maxDepth f_maxClosures f_words f_open f_fn f_vars f_functions f_outs f_resKind f_resValue f_fuelLeft f_closuresMade f_nodes f_frames f_error f_popKind f_popValue n z0 z1 z2 z3 z4 z5 z6 z7 z8 z9 z10 z11 z12 z13 z14 z15 z16 z17 z18 z19 z20 z21 z22 z23 z24) := by
  intro n
  induction n with
  | zero =>
    intros
    intro P h
    unfold wY_scan_2 at h
    exact h.elim
  | succ n ih =>
    intros
    unfold wY_scan_2
    repeat' (first | with_reducible exact dt_post | with_reducible exact ih .. | with_reducible exact dt_wY_scan_65 .. | with_reducible refine dt_ite (fun _ => ?_) (fun _ => ?_) | with_reducible refine dt_and (fun _ => ?_) | with_reducible refine dt_all ?_ | with_reducible refine dt_ex (fun _ => ?_) | (rintro ⟨_, _, _, _, _, _, _, _, _, _, _, _, _, _, _, _, _, _, _, _, _, _, _, _, _, _, _, _, _, _, _, _, _, _, _, _, _, _, _, _, _, _, _⟩; dsimp only))
theorem dt_wpY_scan (u : SY)  : Dt (fun P => wpY_scan P u ) := by
  obtain ⟨g0, g1, g2, g3, g4, g5, g6, g7, g8, g9, g10, g11, g12, g13, g14, g15, g16, g17, g18, b0, b1, b2, b3, b4, b5, b6, b7, b8, b9, b10, b11, b12, b13, b14, b15, b16, b17, b18, b19, b20, b21, b22, b23⟩ := u
  unfold wpY_scan
  dsimp only
  repeat' (first | with_reducible exact dt_post | with_reducible exact dt_wY_scan_2 .. | with_reducible refine dt_ite (fun _ => ?_) (fun _ => ?_) | with_reducible refine dt_and (fun _ => ?_) | with_reducible refine dt_all ?_ | with_reducible refine dt_ex (fun _ => ?_) | (rintro ⟨_, _, _, _, _, _, _, _, _, _, _, _, _, _, _, _, _, _, _, _, _, _, _, _, _, _, _, _, _, _, _, _, _, _, _, _, _, _, _, _, _, _, _⟩; dsimp only))
end
section
/-! run -/
section
variable {S : Nat → ss_T} {n : Nat} {rn N g : Nat → Nat} {uc nd cc fu ou : Nat} {EC : Nat → Nat → Int32} {F F' G G' : Nat → Int32} {A A' B B' : Nat → Nat → Int32}
theorem hp_none {ur uk uv ux rk rv nk nv : Nat → Int32} : hp_H (fun _ => 0) N g 0 0 (-1) ur uk uv ux rk rv nk nv :=
  ⟨by omega, fun u hu => by omega, fun u v hu => by omega, fun r hr => absurd rfl hr, fun r r' hr => absurd rfl hr, fun u hu => by omega, fun u hu => by omega, Or.inl ⟨rfl, fun v hv => by omega⟩, fun u hu => by omega⟩
theorem rr_fresh (h : rr_B S n rn N g uc nd cc fu ou EC F A G B) (eF : ∀ i, 24 ≤ i ∧ i ≤ 32 → F' i = F i) (eA : ∀ i, i ≤ 13 → A' i = A i) (eG : ∀ i, i ≤ 4 → G' i = G i) (eB : ∀ i, i ≤ 1 → B' i = B i)
    (f1 : (F' 33) = 0) (f2 : (F' 34) = (G' 10)) (f3 : (F' 35) = (G' 11)) (f4 : (F' 36) = (F 25)) (f5 : (F' 37) = 0) (f6 : (F' 38) = 0) (f7 : (F' 39) = -1)
    (q1 : (G' 9) = 0) (q2 : (G' 12) = (G 1)) (q3 : (G' 13) = 0) (q4 : (G' 14) = 0) : ∃ mf, mf ≤ 160 ∧ rr_B S n (fun _ => 0) N g 0 0 0 mf 0 EC F' A' G' B' := by
  obtain ⟨h1, ⟨mw, mf, md, mc, l1, l2, l3, l4, l5, l6, l7, l8, l9, l10, l11, l12, l13, l14, l15, l16⟩, h3, h4, h5, h6, h7, h8, h9⟩ := h
  refine ⟨mf, l7, ?_⟩
  unfold rr_B
  rw [eF 29 (by omega), eF 30 (by omega), eF 31 (by omega), eF 32 (by omega), eA 0 (by omega), eA 1 (by omega), eA 2 (by omega), eA 3 (by omega), eA 4 (by omega), eA 5 (by omega), eA 6 (by omega), eA 7 (by omega), eA 8 (by omega), eA 9 (by omega), eA 10 (by omega), eA 11 (by omega), eA 12 (by omega), eA 13 (by omega), eB 0 (by omega), eB 1 (by omega), f7]
  refine ⟨h1, ⟨mw, mf, md, mc, by rw [eF 24 (by omega)]; exact l1, by rw [eG 0 (by omega)]; exact l2, l3, l4, by rw [eF 25 (by omega)]; exact l5, by rw [eG 1 (by omega)]; exact l6, l7, by rw [eF 26 (by omega)]; exact l8, by rw [eG 2 (by omega)]; exact l9, l10, by rw [eF 27 (by omega)]; exact l11, by rw [eG 3 (by omega)]; exact l12, l13, by omega, by rw [eF 28 (by omega)]; exact l15, by rw [eG 4 (by omega)]; exact l16⟩, h3, h4, hp_none, ⟨f6, q4, by omega, f5, q3, f4.trans l5, q2.trans l6, f1, q1, by omega, f2, f3⟩, fun i hi => by omega, fun v hv => by omega, fun t ht => by omega⟩
end
end
section
/-! run keeps the relation -/
theorem i_vc_run {k : Nat} {u : SX} {v : SY} (I : i_Rel k u v) (hk : k + 4 ≤ 2052) : wpX_run (fun r u' => wpY_run (fun r' v' => r' = r ∧ i_Rel (k + 4) u' v') v) u := by
  obtain ⟨F, A, G, B, rfl, rfl, S, n, N, g, uc, nd, cc, fu, ou, EC, h⟩ := I
  obtain ⟨mw, l1, l2, l3, l4, l5, l6, hK⟩ := rr_K h
  have hS := h.1
  have hI := ss_I_S hS n (Nat.le_refl _)
  have hY : yb_K S n mw G B := ⟨hS, l2, l3, l4, l6⟩
  have hx := h.2.2.2.1
  have hQ6 := ss_Q6 hI
  have keep : ∀ G' B', ys_fr G B G' B' → i_Rel (k + 4) (uv_X F A) (uv_Y G' B') := fun G' B' f => ⟨F, A, G', B', rfl, rfl, S, n, N, g, uc, nd, cc, fu, ou, EC, rr_scan h f⟩
  have keep0 : i_Rel (k + 4) (uv_X F A) (uv_Y G B) := ⟨F, A, G, B, rfl, rfl, S, n, N, g, uc, nd, cc, fu, ou, EC, h⟩
  have n96 : n ≤ 96 := by omega
  have hO10 := hI.1
  have hP6 := hI.2.2.2.2.1 0 (Nat.zero_le _) (Or.inl rfl)
  have f0 : (A 9) 0 = nI (ss_P (S n) 0) := (hx.2.2.2.2.2.1 0 (Nat.zero_le _) (Or.inl rfl)).1
  by_cases hO : ss_O (S n) = 0
  · have o0 : (F 30) = 0 := by rw [hx.2.1, hO]; rfl
    by_cases hP : ss_P (S n) 0 = 0
    · have p0 : (A 9) 0 = 0 := by rw [f0, hP]; rfl
      obtain ⟨s, ⟨G1, B1, rfl, f, hA⟩, K⟩ := dt_wpY_scan (uv_Y G B) (fun s => ∃ G' B', s = uv_Y G' B' ∧ ys_fr G B G' B' ∧ ys_A (B 0) (B 1) S n (G' 5) (G' 6) (G' 7) (G' 8) (B' 2) (B' 3) (B' 4) (B' 5) (B' 6) (B' 7)) (ys_scan hS n96 l6 (fun G' B' f hA => ⟨G', B', rfl, f, hA⟩))
      have h' := rr_scan h f
      obtain ⟨mf, m1, hB2⟩ := rr_fresh (F' := (uv_st (uv_st (uv_st (uv_st (uv_st (uv_st (uv_st (uv_st (uv_st (uv_st (uv_st (uv_st F 33 (0)) 34 (0)) 35 (0)) 36 ((F 25))) 37 (0)) 38 (0)) 39 (-1)) 40 (0)) 41 (0)) 42 (-1)) 43 (1)) 44 (1))) (A' := A) (G' := (uv_st (uv_st (uv_st (uv_st (uv_st (uv_st (uv_st (uv_st G1 9 (0)) 10 (0)) 11 (0)) 12 ((G1 1))) 13 (0)) 14 (0)) 15 (1)) 16 (0))) (B' := (uv_st (uv_st (uv_st (uv_st B1 16 (upd (B1 16) 0 0)) 17 (upd (B1 17) 0 (-1))) 18 (upd (B1 18) 0 0)) 19 (upd (B1 19) 0 0))) h'
        (fun i hi => by repeat rw [uv_sn (by omega)]) (fun _ _ => rfl) (fun i hi => by repeat rw [uv_sn (by omega)]) (fun i hi => by repeat rw [uv_sn (by omega)]) rfl rfl rfl rfl rfl rfl rfl rfl rfl rfl rfl
      have hR : rr_R (97 * mf + (0 + (n + 1 - 0))) (uv_st (uv_st (uv_st (uv_st (uv_st (uv_st (uv_st (uv_st (uv_st (uv_st (uv_st (uv_st F 33 (0)) 34 (0)) 35 (0)) 36 ((F 25))) 37 (0)) 38 (0)) 39 (-1)) 40 (0)) 41 (0)) 42 (-1)) 43 (1)) 44 (1)) A (uv_st (uv_st (uv_st (uv_st (uv_st (uv_st (uv_st (uv_st G1 9 (0)) 10 (0)) 11 (0)) 12 ((G1 1))) 13 (0)) 14 (0)) 15 (1)) 16 (0)) (uv_st (uv_st (uv_st (uv_st B1 16 (upd (B1 16) 0 0)) 17 (upd (B1 17) 0 (-1))) 18 (upd (B1 18) 0 0)) 19 (upd (B1 19) 0 0)) := by
        refine ⟨S, n, fun _ => 0, N, g, 0, 0, 0, mf, 0, EC, 0, fun _ => 0, fun _ => 0, fun _ => 0, fun _ => -1, fun _ _ => -1, hB2, ⟨by omega, rfl, rfl, rfl, rfl, rfl, rfl, rfl, fun c hc => by omega, fun _ _ => rfl, fun c hc => ?_⟩, rfl⟩
        have c0 : c = 0 := by omega
        subst c0
        unfold rr_f
        show 0 ≤ n ∧ _
        rw [hS.1]
        have u1 : upd ((B1 16)) 0 0 0 = 0 := pk_us
        have u2 : upd ((B1 18)) 0 0 0 = 0 := pk_us
        have u3 : upd ((B1 19)) 0 0 0 = 0 := pk_us
        have u4 : upd ((B1 17)) 0 (-1) 0 = -1 := pk_us
        exact ⟨Nat.zero_le _, u1, Nat.zero_le _, Or.inl ⟨rfl, rfl, hO⟩, ⟨u2, u3, u4, ⟨rfl, fun j hj => absurd hj (Nat.not_lt_zero _)⟩, fun i i1 i2 => absurd (Nat.lt_of_lt_of_le i1 i2) (Nat.not_lt_zero _)⟩, ⟨fun l hl => absurd hl (Nat.not_lt_zero _), fun i hi => absurd hi (Nat.not_lt_zero _), fun _ _ => rfl⟩, rfl, fun z => absurd z (Nat.lt_irrefl _)⟩
      obtain ⟨r, F', A', G', B', h0, X, Y⟩ := ex_all (top := 0) (G := (uv_st (uv_st (uv_st (uv_st (uv_st (uv_st (uv_st G1 9 (0)) 10 (0)) 11 (0)) 12 ((G1 1))) 13 (0)) 14 (0)) 15 (1))) hR (by omega) rfl (by omega)
      have yo : (G1 5) = 0 := by rw [hA.1, hO]; rfl
      have yp : (B1 5) 0 = 0 := by rw [hA.2.2.2.2.2.1 0 (Nat.zero_le _) (Or.inl rfl), hP]; rfl
      unfold wpX_run uv_X
      refine br_t o0 <| br_t p0 ?_
      unfold wpX_resetSession wpX_setResult wpX_startFrame
      refine X _ ?_
      show wpY_run _ (uv_Y G B)
      unfold wpY_run uv_Y
      refine K _ (br_t yo <| br_t yp ?_)
      unfold wpY_newSession
      exact nm_r (e' := upd (B1 16) 0 0) rfl <| nm_r (e' := upd (B1 17) 0 (-1)) rfl <| nm_r (e' := upd (B1 18) 0 0) rfl <| nm_r (e' := upd (B1 19) 0 0) rfl <| Y _ ⟨rfl, F', A', G', B', rfl, rfl, h0⟩
    · unfold wpX_run uv_X
      refine br_t o0 <| br_f (by rw [f0]; exact nI_ne0 (by omega) (by omega)) ?_
      unfold wpY_run uv_Y
      refine ys_scan hS n96 l6 (fun G' B' f hA => ?_)
      have yo : (G' 5) = 0 := by rw [hA.1, hO]; rfl
      refine br_t yo <| br_f (by rw [hA.2.2.2.2.2.1 0 (Nat.zero_le _) (Or.inl rfl)]; exact nI_ne0 (by omega) (by omega)) ⟨rfl, keep G' B' f⟩
  · unfold wpX_run uv_X
    refine br_f (by rw [hx.2.1]; exact nI_ne0 (by omega) (by omega)) ?_
    unfold wpY_run uv_Y
    refine ys_scan hS n96 l6 (fun G' B' f hA => ?_)
    exact br_f (by rw [hA.1]; exact nI_ne0 (by omega) (by omega)) ⟨rfl, keep G' B' f⟩
end
section
/-! invoke keeps the relation -/
theorem i_vc_invoke {k : Nat} {u : SX} {v : SY} (I : i_Rel k u v) (hk : k + 4 ≤ 2052) (v1 : Int32) (v2 : Int32) : wpX_invoke (fun r u' => wpY_invoke (fun r' v' => r' = r ∧ i_Rel (k + 4) u' v') v v1 v2) u v1 v2 := by
  obtain ⟨F, A, G, B, rfl, rfl, S, n, N, g, uc, nd, cc, fu, ou, EC, h⟩ := I
  obtain ⟨mw, l1, l2, l3, l4, l5, l6, hK⟩ := rr_K h
  have hS := h.1
  have hI := ss_I_S hS n (Nat.le_refl _)
  have hY : yb_K S n mw G B := ⟨hS, l2, l3, l4, l6⟩
  have hx := h.2.2.2.1
  have hQ6 := ss_Q6 hI
  have keep : ∀ G' B', ys_fr G B G' B' → i_Rel (k + 4) (uv_X F A) (uv_Y G' B') := fun G' B' f => ⟨F, A, G', B', rfl, rfl, S, n, N, g, uc, nd, cc, fu, ou, EC, rr_scan h f⟩
  have keep0 : i_Rel (k + 4) (uv_X F A) (uv_Y G B) := ⟨F, A, G, B, rfl, rfl, S, n, N, g, uc, nd, cc, fu, ou, EC, h⟩
  obtain ⟨h1, ⟨_, mf, md, mc, _, _, _, _, p5, p6, p7, p8, p9, p10, p11, p12, p13, p14, p15, p16⟩, h3, h4, h5, ⟨n1, n2, n3, n4, n5, n6, n7, n8, n9, n10, n11, n12⟩, h7, h8, h9⟩ := id h
  by_cases hneg : v1 < 0
  · unfold wpX_invoke uv_X
    refine br_t hneg ?_
    unfold wpY_invoke uv_Y
    exact br_t hneg ⟨rfl, keep0⟩
  obtain ⟨i, hi31, rfl⟩ := nI_of hneg
  by_cases hi : i < ou
  · obtain ⟨e1, e2, e3⟩ := h7 i hi
    have i1 : vp_in (nI i) 24 := vp_in_nI (by omega) (by omega)
    have i2 : (nI i).toNatClampNeg = i := nI_clamp (by omega)
    have lx : nI i < (F 33) := by rw [n8]; exact nI_lt hi (by omega)
    have ly : nI i < (G 9) := by rw [n9]; exact nI_lt hi (by omega)
    rcases e3 with k0 | ⟨k1, t, ht, vt⟩
    · unfold wpX_invoke uv_X
      refine br_f hneg <| br_t lx ⟨i1, br_f (by rw [i2, e1, k0]; decide) ?_⟩
      unfold wpY_invoke uv_Y
      exact br_f hneg <| br_t ly ⟨i1, br_t (by rw [i2]; exact k0) ⟨rfl, keep0⟩⟩
    · have kn : ¬ (B 8) i = 0 := fun z => by rw [k1] at z; exact absurd z (by decide)
      obtain ⟨W, d1, d2, d3, d4, d5, d6, d7, d8⟩ := h9 t ht
      obtain ⟨_, _, _, f16, eS⟩ := ss_V4 (h1.2 W d2) d3
      have ep : vp_in ((A 16) t) 16 := by rw [d5]; exact vp_in_nI f16 (by omega)
      have ep2 : (A 4) ((A 16) t).toNatClampNeg = nI (W + 1) := by rw [d5, nI_clamp (by omega)]; exact (h3.2.2 W d2 d3).1
      have nd160 := h5.1
      have n96 : n ≤ 96 := by omega
      have t1 : vp_in (nI t) 32 := vp_in_nI (by omega) (by omega)
      have t2 : (nI t).toNatClampNeg = t := nI_clamp (by omega)
      rcases Nat.eq_zero_or_pos fu with z | z
      · have kp : i_Rel (k + 4) (uv_X (uv_st (uv_st F 34 (0)) 35 (0)) A) (uv_Y (uv_st (uv_st (uv_st (uv_st G 15 (0)) 16 (8)) 10 (0)) 11 (0)) B) := by
          refine ⟨_, _, _, _, rfl, rfl, S, n, N, g, uc, nd, cc, fu, ou, EC, ?_⟩
          exact rr_B_up h (fun i hi => by rw [uv_sn (by omega), uv_sn (by omega)]) (fun _ _ => rfl) (fun i hi => by rw [uv_sn (by omega), uv_sn (by omega), uv_sn (by omega), uv_sn (by omega)]) (fun _ _ => rfl) n6 n7 (Nat.le_refl _) rfl rfl h5 h8
        unfold wpX_invoke uv_X
        refine br_f hneg <| br_t lx ⟨i1, br_t (by rw [i2, e1, k1]) ?_⟩
        refine xw_spend (F := F) (A := A) n6 (by omega) (fun _ => br_f (by decide) (xw_setResult (F := F) (A := A) ?_)) (fun f ef => by omega)
        unfold wpY_invoke uv_Y
        refine br_f hneg <| br_t ly ⟨i1, br_f (by rw [i2]; exact kn) ?_⟩
        rw [z] at n7
        refine yw_spend0 (G := (uv_st (uv_st G 15 (0)) 16 (0))) (B := B) n7 (br_t rfl ?_)
        unfold wY_invoke_54 wpY_execute
        refine br_t (show (0 : Int32) ≤ 0 by decide) ⟨0 + 1, ?_⟩
        unfold wY_execute_14
        refine br_f (by decide) <| br_t (show (0 : Int32) ≤ 0 by decide) ?_
        unfold wY_execute_44
        exact br_f (show ¬ (8 : Int32) = 0 by decide) ⟨rfl, kp⟩
      · obtain ⟨f, rfl⟩ : ∃ f, fu = f + 1 := ⟨fu - 1, by omega⟩
        have Z := fr_fun (c := 0) (b := 0) (rn := fun _ => 0) (nd := nd) (cc := cc) (clw := (B 10)) (env := upd (B 17) 0 (nI nd)) (ops := upd (B 18) 0 0) (blocks := upd (B 19) 0 0) (bW := (B 22)) (bE := (B 23)) (oK := (B 20)) (oV := (B 21)) (rk := upd (A 22) 0 0) (rv := upd (A 23) 0 v2) h1 d2 d3 d7 ht d1 pk_us pk_us pk_us (fun _ _ => rfl)
        rw [← d6] at Z
        obtain ⟨z1, z2, z3, z4, z5⟩ := Z
        have H' := hp_new (r := 0) (hp_setop (r := 0) (x := 0) (y := v2) h5 rfl) (show nd < 160 by omega) rfl (by omega)
        rw [pk_us, pk_us] at H'
        have hB2 : rr_B S n (uv_st (fun _ => 0) 0 (nd + 1)) N g uc (nd + 1) cc f ou EC (uv_st (uv_st (uv_st (uv_st (uv_st (uv_st F 36 (nI f)) 40 ((A 4) ((A 16) t).toNatClampNeg)) 41 (0)) 42 (nI t)) 43 (1)) 44 (1)) (uv_st (uv_st A 22 (upd (A 22) 0 0)) 23 (upd (A 23) 0 v2)) (uv_st (uv_st (uv_st (uv_st (uv_st (uv_st G 15 (0)) 16 (0)) 12 (nI f)) 15 (nI (0 + 1))) 14 (nI (nd + 1))) 16 (0)) (uv_st (uv_st (uv_st (uv_st (uv_st (uv_st (uv_st (uv_st B 16 (upd (B 16) 0 (nI (W + 1)))) 18 (upd (B 18) 0 0)) 19 (upd (B 19) 0 0)) 12 (upd (B 12) nd ((B 1) W))) 13 (upd (B 13) nd 0)) 14 (upd (B 14) nd v2)) 15 (upd (B 15) nd ((B 11) t))) 17 (upd (B 17) 0 (nI nd))) :=
          rr_B_node (x := (B 1) W) (y := 0) (z := v2) (e := (B 11) t) h (fun i hi => by repeat rw [uv_sn (by omega)]) (fun i hi => by repeat rw [uv_sn (by omega)]) (fun i hi => by repeat rw [uv_sn (by omega)]) (fun i hi => by repeat rw [uv_sn (by omega)]) rfl rfl (Nat.le_refl _) rfl rfl rfl rfl rfl (Or.inl rfl) H'
        have hR : rr_R (97 * f + (0 + (n + 1 - (W + 1)))) (uv_st (uv_st (uv_st (uv_st (uv_st (uv_st F 36 (nI f)) 40 ((A 4) ((A 16) t).toNatClampNeg)) 41 (0)) 42 (nI t)) 43 (1)) 44 (1)) (uv_st (uv_st A 22 (upd (A 22) 0 0)) 23 (upd (A 23) 0 v2)) (uv_st (uv_st (uv_st (uv_st (uv_st (uv_st G 15 (0)) 16 (0)) 12 (nI f)) 15 (nI (0 + 1))) 14 (nI (nd + 1))) 16 (0)) (uv_st (uv_st (uv_st (uv_st (uv_st (uv_st (uv_st (uv_st B 16 (upd (B 16) 0 (nI (W + 1)))) 18 (upd (B 18) 0 0)) 19 (upd (B 19) 0 0)) 12 (upd (B 12) nd ((B 1) W))) 13 (upd (B 13) nd 0)) 14 (upd (B 14) nd v2)) 15 (upd (B 15) nd ((B 11) t))) 17 (upd (B 17) 0 (nI nd))) := by
          refine ⟨S, n, uv_st (fun _ => 0) 0 (nd + 1), N, g, uc, nd + 1, cc, f, ou, EC, 0, fun _ => W + 1, fun _ => 0, fun _ => 0, fun _ => nI t, fun _ => uv_st (EC t) (ss_V (S W) + 1) (nI nd), hB2, ⟨by omega, rfl, rfl, rfl, rfl, ep2, rfl, rfl, fun c hc => by omega, fun r hr => ?_, fun c hc => ?_⟩, rfl⟩
          · have hr' : 0 + ss_L (S (W + 1)) ≤ r := hr
            rw [z1] at hr'
            exact uv_sn (by omega)
          · have c0 : c = 0 := by omega
            subst c0
            unfold rr_f
            have u1 : upd ((B 16)) 0 (nI (W + 1)) 0 = nI (W + 1) := pk_us
            exact ⟨d2, u1, Nat.zero_le _, z3, z4, z5, z2.symm, fun q => absurd q (Nat.lt_irrefl _)⟩
        obtain ⟨r, F', A', G', B', h0, X, Y⟩ := ex_all (top := 0) (G := (uv_st (uv_st (uv_st (uv_st (uv_st G 15 (0)) 16 (0)) 12 (nI f)) 15 (nI (0 + 1))) 14 (nI (nd + 1)))) hR (by omega) rfl (by omega)
        unfold wpX_invoke uv_X
        refine br_f hneg <| br_t lx ⟨i1, br_t (by rw [i2, e1, k1]) ?_⟩
        refine xw_spend (F := F) (A := A) n6 (by omega) (fun q => by omega) (fun f' q => ?_)
        rw [show f' = f by omega]
        refine br_t rfl ⟨i1, nm_r (e' := nI t) (by rw [i2]; exact e2.trans vt) ?_⟩
        refine xw_setReg (F := (uv_st F 36 (nI f))) (A := A) (r := 0) rfl (by omega) ?_
        refine ⟨t1, ?_, ?_⟩
        · show vp_in ((A 16) (nI t).toNatClampNeg) 16
          rw [t2]; exact ep
        show wpX_startFrame _ (uv_X (uv_st F 36 (nI f)) (uv_st (uv_st A 22 (upd (A 22) 0 0)) 23 (upd (A 23) 0 v2))) (nI t) ((A 4) ((A 16) (nI t).toNatClampNeg).toNatClampNeg)
        rw [t2]
        unfold wpX_startFrame uv_X
        refine X _ ?_
        show wpY_invoke (fun r' v' => r' = r ∧ i_Rel (k + 4) (uv_X F' A') v') (uv_Y G B) (nI i) v2
        unfold wpY_invoke uv_Y
        refine br_f hneg <| br_t ly ⟨i1, br_f (by rw [i2]; exact kn) ?_⟩
        refine yw_spend (G := (uv_st (uv_st G 15 (0)) 16 (0))) (B := B) n7 (by omega) ?_
        refine br_f (by decide) ⟨i1, ?_⟩
        show wpY_enter _ (uv_Y (uv_st (uv_st (uv_st G 15 (0)) 16 (0)) 12 (nI f)) B) ((B 9) (nI i).toNatClampNeg) 0 v2
        rw [i2, vt]
        refine yw_enter (G := (uv_st (uv_st (uv_st G 15 (0)) 16 (0)) 12 (nI f))) (B := B) (c := 0) (nd := nd) (t := t) (w := W) n2 (by omega) rfl (by omega) (by omega) d1 (by omega) ?_
        unfold wY_invoke_54
        show wpY_execute _ (uv_Y (uv_st (uv_st (uv_st (uv_st (uv_st G 15 (0)) 16 (0)) 12 (nI f)) 15 (nI (0 + 1))) 14 (nI (nd + 1))) (uv_st (uv_st (uv_st (uv_st (uv_st (uv_st (uv_st (uv_st B 16 (upd (B 16) 0 (nI (W + 1)))) 18 (upd (B 18) 0 0)) 19 (upd (B 19) 0 0)) 12 (upd (B 12) nd ((B 1) W))) 13 (upd (B 13) nd 0)) 14 (upd (B 14) nd v2)) 15 (upd (B 15) nd ((B 11) t))) 17 (upd (B 17) 0 (nI nd))))
        exact Y _ ⟨rfl, F', A', G', B', rfl, rfl, h0⟩
  · unfold wpX_invoke uv_X
    refine br_f hneg <| br_f (by rw [n8]; exact nI_nlt (by omega) (by omega)) ?_
    unfold wpY_invoke uv_Y
    exact br_f hneg <| br_f (by rw [n9]; exact nI_nlt (by omega) (by omega)) ⟨rfl, keep0⟩
end
section
/-! clear and the constructor -/
theorem rr_zero {F G : Nat → Int32} {A B : Nat → Nat → Int32} {mw mf md mc : Nat} (a1 : (F 24) = nI mw) (a2 : (G 0) = nI mw) (a3 : mw ≤ 96) (b1 : (F 25) = nI mf) (b2 : (G 1) = nI mf) (b3 : mf ≤ 160)
    (c1 : (F 26) = nI md) (c2 : (G 2) = nI md) (c3 : md ≤ 12) (d1 : (F 27) = nI mc) (d2 : (G 3) = nI mc) (d3 : mc ≤ 32)
    (e1 : (F 28) = 0) (e2 : (F 29) = 0) (e3 : (F 30) = 0) (e4 : (F 31) = 0) (e5 : (F 32) = 0) (e6 : (F 33) = 0) (e7 : (F 34) = 0) (e8 : (F 35) = 0) (e9 : (F 36) = nI mf) (e10 : (F 37) = 0) (e11 : (F 38) = 0) (e12 : (F 39) = -1)
    (g1 : (G 4) = 0) (g2 : (G 9) = 0) (g3 : (G 10) = 0) (g4 : (G 11) = 0) (g5 : (G 12) = nI mf) (g6 : (G 13) = 0) (g7 : (G 14) = 0)
    (x1 : (A 9) 0 = 0) (x2 : (A 10) 0 = 0) : rr_B (fun _ => ss_0) 0 (fun _ => 0) (fun _ => 0) (fun _ => 0) 0 0 0 mf 0 (fun _ _ => 0) F A G B := by
  unfold rr_B
  rw [e12]
  refine ⟨⟨rfl, fun p hp => absurd hp (Nat.not_lt_zero _)⟩, ⟨mw, mf, md, mc, a1, a2, Nat.zero_le _, a3, b1, b2, b3, c1, c2, c3, d1, d2, d3, Nat.zero_le _, e1, g1⟩, ⟨fun p hp => absurd hp (Nat.not_lt_zero _), fun w q hq => absurd hq (Nat.not_lt_zero _), fun w hw => absurd hw (Nat.not_lt_zero _)⟩, ⟨e2, e3, e4, e5, fun i hi => absurd hi (Nat.not_lt_zero _), fun i hi _ => ?_, fun j hj => absurd hj (Nat.not_lt_zero _)⟩, hp_none, ⟨e11, g7, by omega, e10, g6, e9, g5, e6, g2, by omega, e7.trans g3.symm, e8.trans g4.symm⟩, fun i hi => absurd hi (Nat.not_lt_zero _), fun v hv => absurd hv (Nat.not_lt_zero _), fun t ht => absurd ht (Nat.not_lt_zero _)⟩
  have i0 : i = 0 := by
    have : i ≤ 0 := hi
    omega
  subst i0
  exact ⟨x1, x2, fun z => absurd rfl z⟩
theorem i_vc_clear {k : Nat} {u : SX} {v : SY} (I : i_Rel k u v) (hk : k + 4 ≤ 2052) : wpX_clear (fun u' => wpY_clear (fun v' => i_Rel (k + 4) u' v') v) u := by
  obtain ⟨F, A, G, B, rfl, rfl, S, n, N, g, uc, nd, cc, fu, ou, EC, h⟩ := I
  obtain ⟨mw, l1, l2, l3, l4, l5, l6, hK⟩ := rr_K h
  have hS := h.1
  have hI := ss_I_S hS n (Nat.le_refl _)
  have hY : yb_K S n mw G B := ⟨hS, l2, l3, l4, l6⟩
  have hx := h.2.2.2.1
  have hQ6 := ss_Q6 hI
  have keep : ∀ G' B', ys_fr G B G' B' → i_Rel (k + 4) (uv_X F A) (uv_Y G' B') := fun G' B' f => ⟨F, A, G', B', rfl, rfl, S, n, N, g, uc, nd, cc, fu, ou, EC, rr_scan h f⟩
  have keep0 : i_Rel (k + 4) (uv_X F A) (uv_Y G B) := ⟨F, A, G, B, rfl, rfl, S, n, N, g, uc, nd, cc, fu, ou, EC, h⟩
  obtain ⟨_, ⟨mw', mf, md, mc, q1, q2, q3, q4, q5, q6, q7, q8, q9, q10, q11, q12, q13, q14, q15, q16⟩, _⟩ := id h
  unfold wpX_clear uv_X
  unfold wpX_resetProgram wpX_resetSession wpX_setResult
  refine nm_r (e' := upd (A 9) 0 0) rfl <| nm_r (e' := upd (A 10) 0 0) rfl <| nm_r (e' := upd (A 11) 0 (-1)) rfl ?_
  show wpY_clear (fun v' => i_Rel (k + 4) (uv_X (uv_st (uv_st (uv_st (uv_st (uv_st (uv_st (uv_st (uv_st (uv_st (uv_st (uv_st (uv_st (uv_st (uv_st (uv_st (uv_st (uv_st F 28 (0)) 29 (0)) 30 (0)) 31 (0)) 32 (0)) 33 (0)) 34 (0)) 35 (0)) 36 ((F 25))) 37 (0)) 38 (0)) 39 (-1)) 40 (0)) 41 (0)) 42 (-1)) 43 (0)) 44 (0)) (uv_st (uv_st (uv_st A 9 (upd (A 9) 0 0)) 10 (upd (A 10) 0 0)) 11 (upd (A 11) 0 (-1)))) v') (uv_Y G B)
  unfold wpY_clear wpY_newSession uv_Y
  exact ⟨_, _, (uv_st (uv_st (uv_st (uv_st (uv_st (uv_st (uv_st (uv_st G 4 (0)) 9 (0)) 10 (0)) 11 (0)) 12 ((G 1))) 13 (0)) 14 (0)) 15 (0)), B, rfl, rfl, fun _ => ss_0, 0, fun _ => 0, fun _ => 0, 0, 0, 0, mf, 0, fun _ _ => 0,
    rr_zero q1 q2 q4 q5 q6 q7 q8 q9 q10 q11 q12 q13 rfl rfl rfl rfl rfl rfl rfl rfl q5 rfl rfl rfl rfl rfl rfl rfl q6 rfl rfl rfl rfl⟩
def uv_cl (x p q : Int32) : Int32 := if p ≤ x then (if x ≤ q then x else q) else p
theorem uv_cl_nI {x : Int32} {lo hi : Nat} (h : lo ≤ hi) (hh : hi < 2 ^ 31) : ∃ m : Nat, m ≤ hi ∧ uv_cl x (nI lo) (nI hi) = nI m := by
  unfold uv_cl
  by_cases c : nI lo ≤ x
  · rw [if_pos c]
    by_cases d : x ≤ nI hi
    · rw [if_pos d]
      have hn : ¬ x < 0 := by
        have e := nI_toInt (n := lo) (by omega)
        rw [Int32.le_iff_toInt_le, e] at c
        rw [Int32.lt_iff_toInt_lt, Int32.toInt_zero]
        omega
      obtain ⟨j, hj, rfl⟩ := nI_of hn
      exact ⟨j, (nI_leI hj hh).mp d, rfl⟩
    · rw [if_neg d]; exact ⟨hi, Nat.le_refl _, rfl⟩
  · rw [if_neg c]; exact ⟨lo, h, rfl⟩
theorem uv_clp {post : Int32 → Prop} {x p q : Int32} (h : post (uv_cl x p q)) : (p ≤ x → ((x ≤ q → post x) ∧ (¬ x ≤ q → post q))) ∧ (¬ p ≤ x → post p) := by
  unfold uv_cl at h
  refine ⟨fun c => ⟨fun d => ?_, fun d => ?_⟩, fun c => ?_⟩
  · rw [if_pos c, if_pos d] at h; exact h
  · rw [if_pos c, if_neg d] at h; exact h
  · rw [if_neg c] at h; exact h
theorem xq_clamp {post : Int32 → Prop} {u : SX} {x p q : Int32} (h : post (uv_cl x p q)) : wpX_clamp post u x p q := uv_clp h
theorem yq_clamp {post : Int32 → Prop} {u : SY} {x p q : Int32} (h : post (uv_cl x p q)) : wpY_clamp post u x p q := uv_clp h
def qz_F (a b c d : Int32) (i : Nat) : Int32 := if i < 21 then nI i else if i = 21 then -2 else if i = 22 then -1 else if i = 23 then 16000 else if i = 24 then a else if i = 25 then b else if i = 26 then c else if i = 27 then d else if i = 36 then b else if i = 39 then -1 else if i = 42 then -1 else 0
def qz_A (i : Nat) : Nat → Int32 := if i = 9 then upd (fun _ => 0) 0 0 else if i = 10 then upd (fun _ => 0) 0 0 else if i = 11 then upd (fun _ => 0) 0 (-1) else fun _ => 0
def qz_G (a b c d : Int32) (i : Nat) : Int32 := if i = 0 then a else if i = 1 then b else if i = 2 then c else if i = 3 then d else if i = 12 then b else 0
theorem i_vc0 (k0 : Int32) (k1 : Int32) (k2 : Int32) (k3 : Int32) : wpX_init (fun u => wpY_init (fun v => i_Rel 4 u v) k0 k1 k2 k3) k0 k1 k2 k3 := by
  obtain ⟨mw, a1, a2⟩ := uv_cl_nI (x := k0) (lo := 16) (hi := 96) (by omega) (by omega)
  obtain ⟨mf, b1, b2⟩ := uv_cl_nI (x := k1) (lo := 8) (hi := 160) (by omega) (by omega)
  obtain ⟨md, c1, c2⟩ := uv_cl_nI (x := k2) (lo := 2) (hi := 12) (by omega) (by omega)
  obtain ⟨mc, d1, d2⟩ := uv_cl_nI (x := k3) (lo := 2) (hi := 32) (by omega) (by omega)
  unfold wpX_init
  refine xq_clamp (xq_clamp (xq_clamp (xq_clamp ?_)))
  unfold wpX_resetProgram wpX_resetSession wpX_setResult
  refine nm_r (e' := upd (fun _ => 0) 0 0) rfl <| nm_r (e' := upd (fun _ => 0) 0 0) rfl <| nm_r (e' := upd (fun _ => 0) 0 (-1)) rfl ?_
  show wpY_init (fun v => i_Rel 4 (uv_X (qz_F (uv_cl k0 16 96) (uv_cl k1 8 160) (uv_cl k2 2 12) (uv_cl k3 2 32)) qz_A) v) k0 k1 k2 k3
  unfold wpY_init
  refine yq_clamp (yq_clamp (yq_clamp (yq_clamp ?_)))
  unfold wpY_clear wpY_newSession
  exact ⟨qz_F (uv_cl k0 16 96) (uv_cl k1 8 160) (uv_cl k2 2 12) (uv_cl k3 2 32), qz_A, qz_G (uv_cl k0 16 96) (uv_cl k1 8 160) (uv_cl k2 2 12) (uv_cl k3 2 32), fun _ _ => 0, rfl, rfl, fun _ => ss_0, 0, fun _ => 0, fun _ => 0, 0, 0, 0, mf, 0, fun _ _ => 0,
    rr_zero a2 a2 a1 b2 b2 b1 c2 c2 c1 d2 d2 d1 rfl rfl rfl rfl rfl rfl rfl rfl b2 rfl rfl rfl rfl rfl rfl rfl b2 rfl rfl rfl rfl⟩
end
section
/-! the calls that only look -/
theorem ys_fr_r {G : Nat → Int32} {B : Nat → Nat → Int32} : ys_fr G B G B := ⟨fun _ _ => rfl, fun _ _ => rfl⟩
theorem i_vc_kindAt {k : Nat} {u : SX} {v : SY} (I : i_Rel k u v) (hk : k + 4 ≤ 2052) (v1 : Int32) : wpX_kindAt (fun r => wpY_kindAt (fun r' => r' = r ∧ i_Rel (k + 4) u v) v v1) u v1 := by
  obtain ⟨F, A, G, B, rfl, rfl, S, n, N, g, uc, nd, cc, fu, ou, EC, h⟩ := I
  obtain ⟨mw, l1, l2, l3, l4, l5, l6, hK⟩ := rr_K h
  have hS := h.1
  have hI := ss_I_S hS n (Nat.le_refl _)
  have hY : yb_K S n mw G B := ⟨hS, l2, l3, l4, l6⟩
  have hx := h.2.2.2.1
  have hQ6 := ss_Q6 hI
  have keep : ∀ G' B', ys_fr G B G' B' → i_Rel (k + 4) (uv_X F A) (uv_Y G' B') := fun G' B' f => ⟨F, A, G', B', rfl, rfl, S, n, N, g, uc, nd, cc, fu, ou, EC, rr_scan h f⟩
  have keep0 : i_Rel (k + 4) (uv_X F A) (uv_Y G B) := ⟨F, A, G, B, rfl, rfl, S, n, N, g, uc, nd, cc, fu, ou, EC, h⟩
  obtain ⟨n1, n2, n3, n4, n5, n6, n7, n8, n9, n10, n11, n12⟩ := h.2.2.2.2.2.1
  have h7 := h.2.2.2.2.2.2.1
  unfold wpX_kindAt uv_X
  refine br_c (fun e => ?_) (fun e => br_c (fun e0 => ?_) (fun e0 => ?_))
  · unfold wpY_kindAt uv_Y
    exact br_t e ⟨n11.symm, keep0⟩
  · unfold wpY_kindAt uv_Y
    exact br_f e <| br_t e0 ⟨rfl, keep0⟩
  · obtain ⟨i, hi31, rfl⟩ := nI_of e0
    refine pk_lt i ou (fun c => ?_) (fun c => ?_) rfl n8 (by omega) (by omega)
    · have i1 : vp_in (nI i) 24 := vp_in_nI (by omega) (by omega)
      have i2 : (nI i).toNatClampNeg = i := nI_clamp (by omega)
      refine ⟨i1, ?_⟩
      unfold wpY_kindAt uv_Y
      refine br_f e <| br_f e0 <| br_f (by rw [n9]; exact nI_ge c (by omega)) ⟨i1, ?_, keep0⟩
      show (B 8) (nI i).toNatClampNeg = (A 14) (nI i).toNatClampNeg
      rw [i2]; exact (h7 i c).1.symm
    · unfold wpY_kindAt uv_Y
      exact br_f e <| br_f e0 <| br_t (by rw [n9]; exact nI_le c (by omega)) ⟨rfl, keep0⟩
theorem i_vc_valueAt {k : Nat} {u : SX} {v : SY} (I : i_Rel k u v) (hk : k + 4 ≤ 2052) (v1 : Int32) : wpX_valueAt (fun r => wpY_valueAt (fun r' => r' = r ∧ i_Rel (k + 4) u v) v v1) u v1 := by
  obtain ⟨F, A, G, B, rfl, rfl, S, n, N, g, uc, nd, cc, fu, ou, EC, h⟩ := I
  obtain ⟨mw, l1, l2, l3, l4, l5, l6, hK⟩ := rr_K h
  have hS := h.1
  have hI := ss_I_S hS n (Nat.le_refl _)
  have hY : yb_K S n mw G B := ⟨hS, l2, l3, l4, l6⟩
  have hx := h.2.2.2.1
  have hQ6 := ss_Q6 hI
  have keep : ∀ G' B', ys_fr G B G' B' → i_Rel (k + 4) (uv_X F A) (uv_Y G' B') := fun G' B' f => ⟨F, A, G', B', rfl, rfl, S, n, N, g, uc, nd, cc, fu, ou, EC, rr_scan h f⟩
  have keep0 : i_Rel (k + 4) (uv_X F A) (uv_Y G B) := ⟨F, A, G, B, rfl, rfl, S, n, N, g, uc, nd, cc, fu, ou, EC, h⟩
  obtain ⟨n1, n2, n3, n4, n5, n6, n7, n8, n9, n10, n11, n12⟩ := h.2.2.2.2.2.1
  have h7 := h.2.2.2.2.2.2.1
  unfold wpX_valueAt uv_X
  refine br_c (fun e => ?_) (fun e => br_c (fun e0 => ?_) (fun e0 => ?_))
  · unfold wpY_valueAt uv_Y
    exact br_t e ⟨n12.symm, keep0⟩
  · unfold wpY_valueAt uv_Y
    exact br_f e <| br_t e0 ⟨rfl, keep0⟩
  · obtain ⟨i, hi31, rfl⟩ := nI_of e0
    refine pk_lt i ou (fun c => ?_) (fun c => ?_) rfl n8 (by omega) (by omega)
    · have i1 : vp_in (nI i) 24 := vp_in_nI (by omega) (by omega)
      have i2 : (nI i).toNatClampNeg = i := nI_clamp (by omega)
      refine ⟨i1, ?_⟩
      unfold wpY_valueAt uv_Y
      refine br_f e <| br_f e0 <| br_f (by rw [n9]; exact nI_ge c (by omega)) ⟨i1, ?_, keep0⟩
      show (B 9) (nI i).toNatClampNeg = (A 15) (nI i).toNatClampNeg
      rw [i2]; exact (h7 i c).2.1.symm
    · unfold wpY_valueAt uv_Y
      exact br_f e <| br_f e0 <| br_t (by rw [n9]; exact nI_le c (by omega)) ⟨rfl, keep0⟩
section
variable {S : Nat → ss_T} {n : Nat} {N g : Nat → Nat} {uc nd cc fu ou : Nat} {EC : Nat → Nat → Int32} {F G : Nat → Int32} {A B : Nat → Nat → Int32}
theorem xq_level {post : Int32 → Prop} {x : Int32} (hI : ss_I n (S n)) (hx : xc_S S n (F 29) (F 30) (F 31) (F 32) (A 6) (A 7) (A 8) (A 9) (A 10) (A 11) (A 12) (A 13))
    (h0 : ¬ ss_nm x → post (-1)) (h1 : ss_nm x → ss_l (S n) x = 0 → post (-1)) (h2 : ss_nm x → ss_l (S n) x ≠ 0 → post (nI (ss_lv (ss_K (S n)) (ss_C (S n)) (ss_l (S n) x) (ss_O (S n))))) : wpX_levelOf post (uv_X F A) x := by
  have hV := ss_V88 hI
  have hlV : ss_l (S n) x ≤ ss_V (S n) := ss_ls_le _ _ _
  have hO := hI.1
  have hfO := ss_fd_le (ss_K (S n)) (ss_O (S n))
  unfold wpX_levelOf uv_X
  refine xb_name (F := F) (A := A) (fun hn => br_t rfl (h0 hn)) (fun hn => br_f (by decide) ?_)
  refine xw_find (F := F) (A := A) hI hx.2.2.2.1 (fun j hj => (hx.2.2.2.2.2.2 j hj).1) ?_
  by_cases hl : ss_l (S n) x = 0
  · exact br_f (by rw [hl]; decide) (h1 hn hl)
  · have e2 : nI (ss_l (S n) x) - 1 = nI (ss_l (S n) x - 1) := uv_m1 (by omega)
    have i1 : vp_in (nI (ss_l (S n) x - 1)) 88 := vp_in_nI (by omega) (by omega)
    have i2 : (nI (ss_l (S n) x - 1)).toNatClampNeg = ss_l (S n) x - 1 := nI_clamp (by omega)
    have ew := ss_lv_ow (K := ss_K (S n)) (C := ss_C (S n)) hl (ss_O (S n))
    have e3 : (F 31) - (A 13) (ss_l (S n) x - 1) = nI (ss_lv (ss_K (S n)) (ss_C (S n)) (ss_l (S n) x) (ss_O (S n))) := by
      rw [hx.2.2.1, (hx.2.2.2.2.2.2 (ss_l (S n) x - 1) (by omega)).2, pk_sub (by omega)]
      congr 1; omega
    refine br_t (by rw [e2]; exact nI_pos' (by omega)) ⟨by rw [e2]; exact i1, ?_⟩
    show post ((F 31) - (A 13) (nI (ss_l (S n) x) - 1).toNatClampNeg)
    rw [e2, i2, e3]
    exact h2 hn hl
theorem xq_loops {post : Int32 → Prop} {s : ss_T} (hO : ss_O s ≤ 10) (ho : (F 30) = nI (ss_O s)) (hK : ∀ i, i < ss_O s → (A 6) i = ss_K s (i + 1)) (hp : post (nI (ss_nl (ss_K s) (ss_O s)))) : wpX_openLoops post (uv_X F A) := by
  have lp : ∀ (c fuel a : Nat), c ≤ ss_O s → c < fuel → post (nI (a + ss_nl (ss_K s) c)) → wX_openLoops_9 post (F 0) (F 1) (F 2) (F 3) (F 4) (F 5) (F 6) (F 7) (F 8) (F 9) (F 10) (F 11) (F 12) (F 13) (F 14) (F 15) (F 16) (F 17) (F 18) (F 19) (F 20) (F 21) (F 22) (F 23) (F 24) (F 25) (F 26) (F 27) (F 28) (F 29) (F 30) (F 31) (F 32) (F 33) (F 34) (F 35) (F 36) (F 37) (F 38) (F 39) (F 40) (F 41) (F 42) (F 43) (F 44) (A 0) (A 1) (A 2) (A 3) (A 4) (A 5) (A 6) (A 7) (A 8) (A 9) (A 10) (A 11) (A 12) (A 13) (A 14) (A 15) (A 16) (A 17) (A 18) (A 19) (A 20) (A 21) (A 22) (A 23) (A 24) (A 25) (A 26) fuel (nI a) (nI c - 1) := by
    intro c
    induction c with
    | zero =>
      intro fuel a _ hf hp
      obtain ⟨m, rfl⟩ : ∃ m, fuel = m + 1 := ⟨fuel - 1, by omega⟩
      rw [wX_openLoops_9]
      exact br_t (by decide) hp
    | succ c ih =>
      intro fuel a hc hf hp
      obtain ⟨m, rfl⟩ : ∃ m, fuel = m + 1 := ⟨fuel - 1, by omega⟩
      have i1 : ¬ nI c < 0 := nI_pos (by omega)
      have i2 : vp_in (nI c) 10 := vp_in_nI (by omega) (by omega)
      have i3 : (nI c).toNatClampNeg = c := nI_clamp (by omega)
      have i4 : nI c + (-1) = nI c - 1 := by rw [Int32.sub_eq_add_neg]
      have k1 := hK c (by omega)
      have u : ss_nl (ss_K s) (c + 1) = if ss_K s (c + 1) = 5 then 0 else ss_nl (ss_K s) c + (if ss_K s (c + 1) = 3 then 1 else 0) := rfl
      rw [nI_pred, wX_openLoops_9]
      refine br_f i1 ⟨i2, ?_⟩
      rw [i3, k1]
      by_cases h5 : ss_K s (c + 1) = 5
      · rw [u, if_pos h5] at hp
        exact br_t h5 hp
      · rw [u, if_neg h5] at hp
        refine br_f h5 ⟨i2, ?_⟩
        by_cases h3 : ss_K s (c + 1) = 3
        · rw [if_pos h3, show a + (ss_nl (ss_K s) c + 1) = a + 1 + ss_nl (ss_K s) c by omega] at hp
          exact br_t h3 (nm_r (nI_1 a) (nm_r i4 (ih m (a + 1) (by omega) (by omega) hp)))
        · rw [if_neg h3] at hp
          exact br_f h3 (nm_r i4 (ih m a (by omega) (by omega) hp))
  unfold wpX_openLoops uv_X
  refine nm_r (e' := nI (ss_O s) - 1) (by rw [ho]) ⟨ss_O s + 1, ?_⟩
  refine lp (ss_O s) _ 0 (Nat.le_refl _) (by omega) ?_
  rw [Nat.zero_add]; exact hp
def qn_v (s : ss_T) (n cc fu ou : Nat) : Nat → Int32
  | 0 => nI n
  | 1 => nI (ss_O s)
  | 2 => ss_K s (ss_O s)
  | 3 => nI (ss_Q s)
  | 4 => nI (ss_L s)
  | 5 => nI (ss_F s)
  | 6 => nI (ss_nl (ss_K s) (ss_O s))
  | 7 => nI ou
  | 8 => nI fu
  | _ => nI cc
theorem xq_count {post : Int32 → Prop} {mw j : Nat} (hI : ss_I n (S n)) (hx : xc_S S n (F 29) (F 30) (F 31) (F 32) (A 6) (A 7) (A 8) (A 9) (A 10) (A 11) (A 12) (A 13))
    (hK : xb_K F A n mw (ss_fd (ss_K (S n)) (ss_O (S n))) (ss_Q (S n)) (ss_C (S n) (ss_f (S n))) (ss_V (S n))) (hN : rr_N uc nd cc fu ou F G) (hj : j ≤ 9) (hp : post (qn_v (S n) n cc fu ou j)) : wpX_count post (uv_X F A) (nI j) := by
  obtain ⟨n1, n2, n3, n4, n5, n6, n7, n8, n9, n10, n11, n12⟩ := hN
  have hO := hI.1
  have hjj : j = 0 ∨ j = 1 ∨ j = 2 ∨ j = 3 ∨ j = 4 ∨ j = 5 ∨ j = 6 ∨ j = 7 ∨ j = 8 ∨ j = 9 := by omega
  unfold wpX_count uv_X
  rcases hjj with rfl | rfl | rfl | rfl | rfl | rfl | rfl | rfl | rfl | rfl
  · refine br_f (by decide) <| br_f (by decide) <| br_t rfl ?_
    show post ((F 28))
    rw [hK.1]; exact hp
  · refine br_f (by decide) <| br_f (by decide) <| br_f uv_n_1_0 <| br_t rfl ?_
    show post ((F 30))
    rw [hx.2.1]; exact hp
  · refine br_f (by decide) <| br_f (by decide) <| br_f uv_n_2_0 <| br_f uv_n_2_1 <| br_t rfl ?_
    have hp' : post (ss_K (S n) (ss_O (S n))) := hp
    unfold wpX_innerKind
    by_cases z : ss_O (S n) = 0
    · rw [z, hI.2.2.1] at hp'
      exact br_t (by rw [hx.2.1, z]; rfl) hp'
    · have e : (F 30) - 1 = nI (ss_O (S n) - 1) := by rw [hx.2.1]; exact uv_m1 (by omega)
      have i2 : (nI (ss_O (S n) - 1)).toNatClampNeg = ss_O (S n) - 1 := nI_clamp (by omega)
      refine br_f (by rw [hx.2.1]; exact nI_ne0 (by omega) (by omega)) ⟨by rw [e]; exact vp_in_nI (by omega) (by omega), ?_⟩
      show post ((A 6) ((F 30) - 1).toNatClampNeg)
      rw [e, i2, (hx.2.2.2.2.1 (ss_O (S n) - 1) (by omega)).1, show ss_O (S n) - 1 + 1 = ss_O (S n) by omega]
      exact hp'
  · refine br_f (by decide) <| br_f (by decide) <| br_f uv_n_3_0 <| br_f uv_n_3_1 <| br_f uv_n_3_2 <| br_t rfl ⟨xb_in hK, ?_⟩
    show post ((A 9) ((F 31)).toNatClampNeg)
    rw [xb_cl hK, xb_q hK]; exact hp
  · refine br_f (by decide) <| br_f (by decide) <| br_f uv_n_4_0 <| br_f uv_n_4_1 <| br_f uv_n_4_2 <| br_f uv_n_4_3 <| br_t rfl ?_
    exact xb_live (F := F) (A := A) hK hp
  · refine br_f (by decide) <| br_f (by decide) <| br_f uv_n_5_0 <| br_f uv_n_5_1 <| br_f uv_n_5_2 <| br_f uv_n_5_3 <| br_f uv_n_5_4 <| br_t rfl ?_
    show post ((F 29))
    rw [hx.1]; exact hp
  · refine br_f (by decide) <| br_f (by decide) <| br_f uv_n_6_0 <| br_f uv_n_6_1 <| br_f uv_n_6_2 <| br_f uv_n_6_3 <| br_f uv_n_6_4 <| br_f uv_n_6_5 <| br_t rfl ?_
    exact xq_loops (F := F) (A := A) (s := S n) hO hx.2.1 (fun i hi => (hx.2.2.2.2.1 i hi).1) hp
  · refine br_f (by decide) <| br_f (by decide) <| br_f uv_n_7_0 <| br_f uv_n_7_1 <| br_f uv_n_7_2 <| br_f uv_n_7_3 <| br_f uv_n_7_4 <| br_f uv_n_7_5 <| br_f uv_n_7_6 <| br_t rfl ?_
    show post ((F 33))
    rw [n8]; exact hp
  · refine br_f (by decide) <| br_f (by decide) <| br_f uv_n_8_0 <| br_f uv_n_8_1 <| br_f uv_n_8_2 <| br_f uv_n_8_3 <| br_f uv_n_8_4 <| br_f uv_n_8_5 <| br_f uv_n_8_6 <| br_f uv_n_8_7 <| br_t rfl ?_
    show post ((F 36))
    rw [n6]; exact hp
  · refine br_f (by decide) <| br_f (by decide) <| br_f uv_n_9_0 <| br_f uv_n_9_1 <| br_f uv_n_9_2 <| br_f uv_n_9_3 <| br_f uv_n_9_4 <| br_f uv_n_9_5 <| br_f uv_n_9_6 <| br_f uv_n_9_7 <| br_f uv_n_9_8 <| br_t rfl ?_
    show post ((F 37))
    rw [n4]; exact hp
theorem yq_count {post : Int32 → SY → Prop} {mw j : Nat} (hY : yb_K S n mw G B) (hN : rr_N uc nd cc fu ou F G) (hj : j ≤ 9) (hp : ∀ G' B', ys_fr G B G' B' → post (qn_v (S n) n cc fu ou j) (uv_Y G' B')) : wpY_count post (uv_Y G B) (nI j) := by
  obtain ⟨n1, n2, n3, n4, n5, n6, n7, n8, n9, n10, n11, n12⟩ := hN
  have hI := ss_I_S hY.1 n (Nat.le_refl _)
  have h96 := hY.2.2.1
  have hnm := hY.2.2.2.1
  have hO := hI.1
  have hjj : j = 0 ∨ j = 1 ∨ j = 2 ∨ j = 3 ∨ j = 4 ∨ j = 5 ∨ j = 6 ∨ j = 7 ∨ j = 8 ∨ j = 9 := by omega
  unfold wpY_count uv_Y
  refine ys_scan (G := G) (B := B) hY.1 (by omega) hY.2.2.2.2 (fun G' B' f hA => ?_)
  obtain ⟨b1, b2, b3, b4, b5⟩ := yb_A hI hA
  have q := hp G' B' f
  rcases hjj with rfl | rfl | rfl | rfl | rfl | rfl | rfl | rfl | rfl | rfl
  · refine br_t rfl ?_
    show post ((G' 4)) (uv_Y G' B')
    rw [f.1 4 (by omega), hY.2.2.2.2]; exact q
  · refine br_f uv_n_1_0 <| br_t rfl ?_
    show post ((G' 5)) (uv_Y G' B')
    rw [hA.1]; exact q
  · refine br_f uv_n_2_0 <| br_f uv_n_2_1 <| br_t rfl ⟨b4, ?_⟩
    show post ((B' 2) ((G' 5)).toNatClampNeg) (uv_Y G' B')
    rw [b5, (hA.2.2.2.2.1 _ (Nat.le_refl _)).1]; exact q
  · refine br_f uv_n_3_0 <| br_f uv_n_3_1 <| br_f uv_n_3_2 <| br_t rfl ⟨b1, ?_⟩
    show post ((B' 5) ((G' 6)).toNatClampNeg) (uv_Y G' B')
    rw [b2, b3]; exact q
  · refine br_f uv_n_4_0 <| br_f uv_n_4_1 <| br_f uv_n_4_2 <| br_f uv_n_4_3 <| br_t rfl ⟨b1, ?_⟩
    show post ((G' 7) - (B' 4) ((G' 6)).toNatClampNeg) (uv_Y G' B')
    rw [b2, hA.2.2.1, (hA.2.2.2.2.1 _ (ss_f_le _)).2, pk_sub (ss_I_cf hI)]; exact q
  · refine br_f uv_n_5_0 <| br_f uv_n_5_1 <| br_f uv_n_5_2 <| br_f uv_n_5_3 <| br_f uv_n_5_4 <| br_t rfl ?_
    show post ((G' 8)) (uv_Y G' B')
    rw [hA.2.2.2.1]; exact q
  · refine br_f uv_n_6_0 <| br_f uv_n_6_1 <| br_f uv_n_6_2 <| br_f uv_n_6_3 <| br_f uv_n_6_4 <| br_f uv_n_6_5 <| br_t rfl ?_
    exact yw_loops (G := G') (B := B') (s := S n) hO hA.1 hA.2.1 (fun i hi => (hA.2.2.2.2.1 i hi).1) q
  · refine br_f uv_n_7_0 <| br_f uv_n_7_1 <| br_f uv_n_7_2 <| br_f uv_n_7_3 <| br_f uv_n_7_4 <| br_f uv_n_7_5 <| br_f uv_n_7_6 <| br_t rfl ?_
    show post ((G' 9)) (uv_Y G' B')
    rw [f.1 9 (by omega), n9]; exact q
  · refine br_f uv_n_8_0 <| br_f uv_n_8_1 <| br_f uv_n_8_2 <| br_f uv_n_8_3 <| br_f uv_n_8_4 <| br_f uv_n_8_5 <| br_f uv_n_8_6 <| br_f uv_n_8_7 <| br_t rfl ?_
    show post ((G' 12)) (uv_Y G' B')
    rw [f.1 12 (by omega), n7]; exact q
  · refine br_f uv_n_9_0 <| br_f uv_n_9_1 <| br_f uv_n_9_2 <| br_f uv_n_9_3 <| br_f uv_n_9_4 <| br_f uv_n_9_5 <| br_f uv_n_9_6 <| br_f uv_n_9_7 <| br_f uv_n_9_8 <| br_t rfl ?_
    show post ((G' 13)) (uv_Y G' B')
    rw [f.1 13 (by omega), n5]; exact q
end
theorem yq_out {x : Int32} (h : x < 0 ∨ 9 < x) : ¬ x = 0 ∧ ¬ x = 1 ∧ ¬ x = 2 ∧ ¬ x = 3 ∧ ¬ x = 4 ∧ ¬ x = 5 ∧ ¬ x = 6 ∧ ¬ x = 7 ∧ ¬ x = 8 ∧ ¬ x = 9 := by
  refine ⟨?_, ?_, ?_, ?_, ?_, ?_, ?_, ?_, ?_, ?_⟩ <;> (intro e; subst e; revert h; decide)
theorem i_vc_count {k : Nat} {u : SX} {v : SY} (I : i_Rel k u v) (hk : k + 4 ≤ 2052) (v1 : Int32) : wpX_count (fun r => wpY_count (fun r' v' => r' = r ∧ i_Rel (k + 4) u v') v v1) u v1 := by
  obtain ⟨F, A, G, B, rfl, rfl, S, n, N, g, uc, nd, cc, fu, ou, EC, h⟩ := I
  obtain ⟨mw, l1, l2, l3, l4, l5, l6, hK⟩ := rr_K h
  have hS := h.1
  have hI := ss_I_S hS n (Nat.le_refl _)
  have hY : yb_K S n mw G B := ⟨hS, l2, l3, l4, l6⟩
  have hx := h.2.2.2.1
  have hQ6 := ss_Q6 hI
  have keep : ∀ G' B', ys_fr G B G' B' → i_Rel (k + 4) (uv_X F A) (uv_Y G' B') := fun G' B' f => ⟨F, A, G', B', rfl, rfl, S, n, N, g, uc, nd, cc, fu, ou, EC, rr_scan h f⟩
  have keep0 : i_Rel (k + 4) (uv_X F A) (uv_Y G B) := ⟨F, A, G, B, rfl, rfl, S, n, N, g, uc, nd, cc, fu, ou, EC, h⟩
  have hN := h.2.2.2.2.2.1
  have out : (v1 < 0 ∨ 9 < v1) → wpY_count (fun r' v' => r' = -1 ∧ i_Rel (k + 4) (uv_X F A) v') (uv_Y G B) v1 := by
    intro z
    obtain ⟨z0, z1, z2, z3, z4, z5, z6, z7, z8, z9⟩ := yq_out z
    unfold wpY_count uv_Y
    refine ys_scan (G := G) (B := B) hS (by omega) l6 (fun G' B' f hA => ?_)
    exact br_f z0 <| br_f z1 <| br_f z2 <| br_f z3 <| br_f z4 <| br_f z5 <| br_f z6 <| br_f z7 <| br_f z8 <| br_f z9 ⟨rfl, keep G' B' f⟩
  by_cases c0 : v1 < 0
  · unfold wpX_count uv_X
    exact br_t c0 (out (Or.inl c0))
  · by_cases c9 : 9 < v1
    · unfold wpX_count uv_X
      exact br_f c0 <| br_t c9 (out (Or.inr c9))
    · obtain ⟨j, hj, rfl⟩ := nI_of c0
      have j9 : j ≤ 9 := by
        by_cases z : j ≤ 9
        · exact z
        · exact absurd (nI_lt (a := 9) (b := j) (by omega) hj) c9
      exact xq_count hI hx hK hN j9 (yq_count hY hN j9 (fun G' B' f => ⟨rfl, keep G' B' f⟩))
theorem i_vc_levelOf {k : Nat} {u : SX} {v : SY} (I : i_Rel k u v) (hk : k + 4 ≤ 2052) (v1 : Int32) : wpX_levelOf (fun r => wpY_levelOf (fun r' v' => r' = r ∧ i_Rel (k + 4) u v') v v1) u v1 := by
  obtain ⟨F, A, G, B, rfl, rfl, S, n, N, g, uc, nd, cc, fu, ou, EC, h⟩ := I
  obtain ⟨mw, l1, l2, l3, l4, l5, l6, hK⟩ := rr_K h
  have hS := h.1
  have hI := ss_I_S hS n (Nat.le_refl _)
  have hY : yb_K S n mw G B := ⟨hS, l2, l3, l4, l6⟩
  have hx := h.2.2.2.1
  have hQ6 := ss_Q6 hI
  have keep : ∀ G' B', ys_fr G B G' B' → i_Rel (k + 4) (uv_X F A) (uv_Y G' B') := fun G' B' f => ⟨F, A, G', B', rfl, rfl, S, n, N, g, uc, nd, cc, fu, ou, EC, rr_scan h f⟩
  have keep0 : i_Rel (k + 4) (uv_X F A) (uv_Y G B) := ⟨F, A, G, B, rfl, rfl, S, n, N, g, uc, nd, cc, fu, ou, EC, h⟩
  refine xq_level hI hx (fun hn => ?_) (fun hn hl => ?_) (fun hn hl => ?_)
  · unfold wpY_levelOf uv_Y
    exact yw_bad (G := G) (B := B) (fun _ => br_f (by decide) ⟨rfl, keep0⟩) (fun z => absurd z hn)
  · unfold wpY_levelOf uv_Y
    refine yw_bad (G := G) (B := B) (fun z => absurd hn z) (fun _ => br_t rfl ?_)
    refine ys_scan (G := G) (B := B) hS (by omega) l6 (fun G' B' f hA => ?_)
    exact yw_level (G := G') (B := B') hI hA.1 hA.2.2.1 hA.2.2.2.2.1 hA.2.2.2.2.2.2.2.1 (fun _ => ⟨rfl, keep G' B' f⟩) (fun z => absurd hl z)
  · unfold wpY_levelOf uv_Y
    refine yw_bad (G := G) (B := B) (fun z => absurd hn z) (fun _ => br_t rfl ?_)
    refine ys_scan (G := G) (B := B) hS (by omega) l6 (fun G' B' f hA => ?_)
    exact yw_level (G := G') (B := B') hI hA.1 hA.2.2.1 hA.2.2.2.2.1 hA.2.2.2.2.2.2.2.1 (fun z => absurd z hl) (fun _ => ⟨rfl, keep G' B' f⟩)
end
section
/-! what a closure holds -/
section
variable {S : Nat → ss_T} {n : Nat} {N g : Nat → Nat} {uc nd cc fu ou : Nat} {EC : Nat → Nat → Int32} {F G : Nat → Int32} {A B : Nat → Nat → Int32}
theorem qh_all (h : rr_B S n (fun _ => 0) N g uc nd cc fu ou EC F A G B) (p0 p1 : Int32) : ∃ a b : Int32, ((a = -1 ∧ b = -1) ∨ ∃ u, u < uc ∧ a = nI u ∧ b = nI (N u)) ∧
    (∀ post : Int32 → Prop, post a → wpX_heldCell post (uv_X F A) p0 p1) ∧
    (∀ (post : Int32 → SY → Prop) (G1 : Nat → Int32) (B1 : Nat → Nat → Int32), ys_fr G B G1 B1 → (∀ G' B', ys_fr G B G' B' → post b (uv_Y G' B')) → wpY_held post (uv_Y G1 B1) p0 p1) := by
  obtain ⟨h1, ⟨mw, mf, md, mc, l1, l2, l3, l4, l5, l6, l7, l8, l9, l10, l11, l12, l13, l14, l15, l16⟩, h3, h4, h5, ⟨n1, n2, n3, n4, n5, n6, n7, n8, n9, n10, n11, n12⟩, h7, h8, h9⟩ := id h
  have nd160 := h5.1
  by_cases hneg : p0 < 0
  · refine ⟨-1, -1, Or.inl ⟨rfl, rfl⟩, fun post hp => ?_, fun post G1 B1 f hp => ?_⟩
    · unfold wpX_heldCell uv_X
      exact br_t hneg hp
    · unfold wpY_held uv_Y
      exact br_t hneg (hp G1 B1 f)
  obtain ⟨i, hi31, rfl⟩ := nI_of hneg
  by_cases hi : i < ou
  · obtain ⟨e1, e2, e3⟩ := h7 i hi
    have i1 : vp_in (nI i) 24 := vp_in_nI (by omega) (by omega)
    have i2 : (nI i).toNatClampNeg = i := nI_clamp (by omega)
    have lx : ¬ (F 33) ≤ nI i := by rw [n8]; exact nI_ge hi (by omega)
    have ly : ∀ (G1 : Nat → Int32) (B1 : Nat → Nat → Int32), ys_fr G B G1 B1 → ¬ (G1 9) ≤ nI i := fun G1 B1 f => by rw [f.1 9 (by omega), n9]; exact nI_ge hi (by omega)
    by_cases hn : ss_nm p1
    · obtain ⟨m, hm, rfl⟩ := hn
      have hn : ss_nm (nI m) := ⟨m, hm, rfl⟩
      rcases e3 with k0 | ⟨k1, t, ht, vt⟩
      · refine ⟨-1, -1, Or.inl ⟨rfl, rfl⟩, fun post hp => ?_, fun post G1 B1 f hp => ?_⟩
        · unfold wpX_heldCell uv_X
          refine br_f hneg <| br_f lx ?_
          refine xb_name (F := F) (A := A) (fun z => absurd hn z) (fun _ => br_f (by decide) ⟨i1, br_f ?_ hp⟩)
          show ¬ (A 14) (nI i).toNatClampNeg = 1
          rw [i2, e1, k0]; decide
        · unfold wpY_held uv_Y
          refine br_f hneg <| br_f (ly G1 B1 f) ?_
          refine yw_bad (G := G1) (B := B1) (fun z => absurd hn z) (fun _ => br_t rfl ⟨i1, br_f ?_ (hp G1 B1 f)⟩)
          show ¬ (B1 8) (nI i).toNatClampNeg = 1
          rw [i2, f.2 8 (by omega), k0]; decide
      · obtain ⟨W, d1, d2, d3, d4, d5, d6, d7, d8⟩ := h9 t ht
        have hV := ss_V88 (ss_I_S h1 W (by omega))
        have t1 : vp_in (nI t) 32 := vp_in_nI (by omega) (by omega)
        have t2 : (nI t).toNatClampNeg = t := nI_clamp (by omega)
        have KX : ∀ post : Int32 → Prop, post ((A 17) (t * 8 + m)) → wpX_heldCell post (uv_X F A) (nI i) (nI m) := by
          intro post hp
          have j1 : (A 15) i * 8 + nI m = nI (t * 8 + m) := by rw [e2, vt]; exact uv_8 t m
          have j2 : (nI (t * 8 + m)).toNatClampNeg = t * 8 + m := nI_clamp (by omega)
          unfold wpX_heldCell uv_X
          refine br_f hneg <| br_f lx ?_
          refine xb_name (F := F) (A := A) (fun z => absurd hn z) (fun _ => br_f (by decide) ⟨i1, br_t ?_ ⟨i1, ?_, ?_⟩⟩)
          · show (A 14) (nI i).toNatClampNeg = 1
            rw [i2, e1, k1]
          · show vp_in ((A 15) (nI i).toNatClampNeg * 8 + nI m) 256
            rw [i2, j1]; exact vp_in_nI (by omega) (by omega)
          · show post ((A 17) ((A 15) (nI i).toNatClampNeg * 8 + nI m).toNatClampNeg)
            rw [i2, j1, j2]; exact hp
        have KY : ∀ (post : Int32 → SY → Prop) (b : Int32) (G1 : Nat → Int32) (B1 : Nat → Nat → Int32), ys_fr G B G1 B1 → ((¬ ss_cap (B 0) (B 1) S n W (nI m) ∧ b = -1) ∨ (ss_cap (B 0) (B 1) S n W (nI m) ∧ b = EC t (ss_l (S W) (nI m)))) →
            (∀ G' B', ys_fr G B G' B' → post b (uv_Y G' B')) → wpY_held post (uv_Y G1 B1) (nI i) (nI m) := by
          intro post b G1 B1 f hb hp
          unfold wpY_held uv_Y
          refine br_f hneg <| br_f (ly G1 B1 f) ?_
          refine yw_bad (G := G1) (B := B1) (fun z => absurd hn z) (fun _ => br_t rfl ⟨i1, br_t ?_ ?_⟩)
          · show (B1 8) (nI i).toNatClampNeg = 1
            rw [i2, f.2 8 (by omega), k1]
          · have hS1 : ss_S (B1 0) (B1 1) n S := by rw [f.2 0 (by omega), f.2 1 (by omega)]; exact h1
            have w1 : (G1 4) = nI n := (f.1 4 (by omega)).trans l16
            refine ys_scan (G := G1) (B := B1) hS1 (by omega) w1 (fun G' B' f' hA => ?_)
            have f2 := ys_fr_t f f'
            have hA9 := hA.2.2.2.2.2.2.2.2 W m (by omega) hm
            rw [f.2 0 (by omega), f.2 1 (by omega)] at hA9
            have o1 : (B' 9) i = nI t := by rw [f2.2 9 (by omega)]; exact vt
            have o2 : (B' 10) t = nI W := by rw [f2.2 10 (by omega)]; exact d1
            have o3 : (B' 11) t = EC t (ss_V (S W)) := by rw [f2.2 11 (by omega)]; exact d6
            have j2 : (nI (W * 8 + m)).toNatClampNeg = W * 8 + m := nI_clamp (by omega)
            show vp_in (nI i) 24 ∧ ∀ x3 : Int32, x3 = (B' 9) (nI i).toNatClampNeg → (vp_in x3 32 ∧ (vp_in ((B' 10) x3.toNatClampNeg * 8 + nI m) 768 ∧ (((B' 7) ((B' 10) x3.toNatClampNeg * 8 + nI m).toNatClampNeg = 0 → post (-1) (uv_Y G' B')) ∧ (¬ (B' 7) ((B' 10) x3.toNatClampNeg * 8 + nI m).toNatClampNeg = 0 → (vp_in x3 32 ∧ wpY_lookup (fun r => post r (uv_Y G' B')) (uv_Y G' B') ((B' 11) x3.toNatClampNeg) (nI m))))))
            refine ⟨i1, nm_r (e' := nI t) (by rw [i2]; exact o1) ?_⟩
            rw [t2, o2, uv_8, j2]
            refine ⟨t1, vp_in_nI (by omega) (by omega), ?_⟩
            rcases hb with ⟨c, rfl⟩ | ⟨c, rfl⟩
            · exact br_t (hA9.2 c) (hp G' B' f2)
            · refine br_f (by rw [hA9.1 c]; decide) ⟨t1, ?_⟩
              rw [o3]
              refine yw_lookup (G := G') (B := B') (E := EC t) (nd := nd) (j := ss_V (S W)) (s := S W) ?_ nd160 hV (Nat.le_refl _) (hp G' B' f2)
              rw [f2.2 15 (by omega), f2.2 12 (by omega)]; exact d7
        by_cases hc : ss_cap (B 0) (B 1) S n W (nI m)
        · obtain ⟨u, u1, u2, u3⟩ := (d8 m hm).1 hc
          exact ⟨nI u, nI (N u), Or.inr ⟨u, u1, rfl, rfl⟩, fun post hp => KX post (by rw [u2]; exact hp), fun post G1 B1 f hp => KY post _ G1 B1 f (Or.inr ⟨hc, u3.symm⟩) hp⟩
        · have u2 := (d8 m hm).2 hc
          exact ⟨-1, -1, Or.inl ⟨rfl, rfl⟩, fun post hp => KX post (by rw [u2]; exact hp), fun post G1 B1 f hp => KY post _ G1 B1 f (Or.inl ⟨hc, rfl⟩) hp⟩
    · refine ⟨-1, -1, Or.inl ⟨rfl, rfl⟩, fun post hp => ?_, fun post G1 B1 f hp => ?_⟩
      · unfold wpX_heldCell uv_X
        refine br_f hneg <| br_f lx ?_
        exact xb_name (F := F) (A := A) (fun _ => br_t rfl hp) (fun z => absurd z hn)
      · unfold wpY_held uv_Y
        refine br_f hneg <| br_f (ly G1 B1 f) ?_
        exact yw_bad (G := G1) (B := B1) (fun _ => br_f (by decide) (hp G1 B1 f)) (fun z => absurd z hn)
  · refine ⟨-1, -1, Or.inl ⟨rfl, rfl⟩, fun post hp => ?_, fun post G1 B1 f hp => ?_⟩
    · unfold wpX_heldCell uv_X
      exact br_f hneg <| br_t (by rw [n8]; exact nI_le (by omega) hi31) hp
    · unfold wpY_held uv_Y
      exact br_f hneg <| br_t (by rw [f.1 9 (by omega), n9]; exact nI_le (by omega) hi31) (hp G1 B1 f)
theorem qh_cell {u : Nat} (h : rr_B S n (fun _ => 0) N g uc nd cc fu ou EC F A G B) (hu : u < uc) : u < 160 ∧ N u < 160 ∧ (A 19) u = (B 13) (N u) ∧ (A 20) u = (B 14) (N u) := by
  have h5 := h.2.2.2.2.1
  have hc := hp_uc h5
  have nd160 := h5.1
  have hN := (h5.2.1 u hu).1
  have g0 : g u = 0 := by
    by_cases z : g u = 0
    · exact z
    · have q : 0 = N u + 1 := h5.2.2.2.2.2.1 u hu z
      omega
  have q := h5.2.2.2.2.2.2.1 u hu g0
  exact ⟨by omega, by omega, q.1, q.2.1⟩
end
theorem i_vc_heldKind {k : Nat} {u : SX} {v : SY} (I : i_Rel k u v) (hk : k + 4 ≤ 2052) (v1 : Int32) (v2 : Int32) : wpX_heldKind (fun r => wpY_heldKind (fun r' v' => r' = r ∧ i_Rel (k + 4) u v') v v1 v2) u v1 v2 := by
  obtain ⟨F, A, G, B, rfl, rfl, S, n, N, g, uc, nd, cc, fu, ou, EC, h⟩ := I
  obtain ⟨mw, l1, l2, l3, l4, l5, l6, hK⟩ := rr_K h
  have hS := h.1
  have hI := ss_I_S hS n (Nat.le_refl _)
  have hY : yb_K S n mw G B := ⟨hS, l2, l3, l4, l6⟩
  have hx := h.2.2.2.1
  have hQ6 := ss_Q6 hI
  have keep : ∀ G' B', ys_fr G B G' B' → i_Rel (k + 4) (uv_X F A) (uv_Y G' B') := fun G' B' f => ⟨F, A, G', B', rfl, rfl, S, n, N, g, uc, nd, cc, fu, ou, EC, rr_scan h f⟩
  have keep0 : i_Rel (k + 4) (uv_X F A) (uv_Y G B) := ⟨F, A, G, B, rfl, rfl, S, n, N, g, uc, nd, cc, fu, ou, EC, h⟩
  obtain ⟨a, b, hab, X, Y⟩ := qh_all h v1 v2
  unfold wpX_heldKind uv_X
  refine X _ ?_
  rcases hab with ⟨rfl, rfl⟩ | ⟨w, w1, rfl, rfl⟩
  · refine br_f (by decide) ?_
    unfold wpY_heldKind uv_Y
    exact Y _ G B ys_fr_r (fun G' B' f => br_f (by decide) ⟨rfl, keep G' B' f⟩)
  · obtain ⟨q1, q2, q3, q4⟩ := qh_cell h w1
    refine br_t (nI_pos' (by omega)) ⟨vp_in_nI q1 (by omega), ?_⟩
    unfold wpY_heldKind uv_Y
    refine Y _ G B ys_fr_r (fun G' B' f => br_t (nI_pos' (by omega)) ⟨vp_in_nI q2 (by omega), ?_, keep G' B' f⟩)
    show (B' 13) (nI (N w)).toNatClampNeg = (A 19) (nI w).toNatClampNeg
    rw [nI_clamp (n := N w) (by omega), nI_clamp (n := w) (by omega), f.2 13 (by omega)]
    exact q3.symm
theorem i_vc_heldValue {k : Nat} {u : SX} {v : SY} (I : i_Rel k u v) (hk : k + 4 ≤ 2052) (v1 : Int32) (v2 : Int32) : wpX_heldValue (fun r => wpY_heldValue (fun r' v' => r' = r ∧ i_Rel (k + 4) u v') v v1 v2) u v1 v2 := by
  obtain ⟨F, A, G, B, rfl, rfl, S, n, N, g, uc, nd, cc, fu, ou, EC, h⟩ := I
  obtain ⟨mw, l1, l2, l3, l4, l5, l6, hK⟩ := rr_K h
  have hS := h.1
  have hI := ss_I_S hS n (Nat.le_refl _)
  have hY : yb_K S n mw G B := ⟨hS, l2, l3, l4, l6⟩
  have hx := h.2.2.2.1
  have hQ6 := ss_Q6 hI
  have keep : ∀ G' B', ys_fr G B G' B' → i_Rel (k + 4) (uv_X F A) (uv_Y G' B') := fun G' B' f => ⟨F, A, G', B', rfl, rfl, S, n, N, g, uc, nd, cc, fu, ou, EC, rr_scan h f⟩
  have keep0 : i_Rel (k + 4) (uv_X F A) (uv_Y G B) := ⟨F, A, G, B, rfl, rfl, S, n, N, g, uc, nd, cc, fu, ou, EC, h⟩
  obtain ⟨a, b, hab, X, Y⟩ := qh_all h v1 v2
  unfold wpX_heldValue uv_X
  refine X _ ?_
  rcases hab with ⟨rfl, rfl⟩ | ⟨w, w1, rfl, rfl⟩
  · refine br_f (by decide) ?_
    unfold wpY_heldValue uv_Y
    exact Y _ G B ys_fr_r (fun G' B' f => br_f (by decide) ⟨rfl, keep G' B' f⟩)
  · obtain ⟨q1, q2, q3, q4⟩ := qh_cell h w1
    refine br_t (nI_pos' (by omega)) ⟨vp_in_nI q1 (by omega), ?_⟩
    unfold wpY_heldValue uv_Y
    refine Y _ G B ys_fr_r (fun G' B' f => br_t (nI_pos' (by omega)) ⟨vp_in_nI q2 (by omega), ?_, keep G' B' f⟩)
    show (B' 14) (nI (N w)).toNatClampNeg = (A 20) (nI w).toNatClampNeg
    rw [nI_clamp (n := N w) (by omega), nI_clamp (n := w) (by omega), f.2 14 (by omega)]
    exact q4.symm
theorem i_vc_same {k : Nat} {u : SX} {v : SY} (I : i_Rel k u v) (hk : k + 4 ≤ 2052) (v1 : Int32) (v2 : Int32) (v3 : Int32) : wpX_same (fun r => wpY_same (fun r' v' => r' = r ∧ i_Rel (k + 4) u v') v v1 v2 v3) u v1 v2 v3 := by
  obtain ⟨F, A, G, B, rfl, rfl, S, n, N, g, uc, nd, cc, fu, ou, EC, h⟩ := I
  obtain ⟨mw, l1, l2, l3, l4, l5, l6, hK⟩ := rr_K h
  have hS := h.1
  have hI := ss_I_S hS n (Nat.le_refl _)
  have hY : yb_K S n mw G B := ⟨hS, l2, l3, l4, l6⟩
  have hx := h.2.2.2.1
  have hQ6 := ss_Q6 hI
  have keep : ∀ G' B', ys_fr G B G' B' → i_Rel (k + 4) (uv_X F A) (uv_Y G' B') := fun G' B' f => ⟨F, A, G', B', rfl, rfl, S, n, N, g, uc, nd, cc, fu, ou, EC, rr_scan h f⟩
  have keep0 : i_Rel (k + 4) (uv_X F A) (uv_Y G B) := ⟨F, A, G, B, rfl, rfl, S, n, N, g, uc, nd, cc, fu, ou, EC, h⟩
  obtain ⟨a, b, hab, X, Y⟩ := qh_all h v1 v3
  obtain ⟨a', b', hab', X', Y'⟩ := qh_all h v2 v3
  unfold wpX_same uv_X
  refine X _ (X' _ ?_)
  rcases hab with ⟨rfl, rfl⟩ | ⟨w, w1, rfl, rfl⟩
  · refine br_t (by decide) ?_
    unfold wpY_same uv_Y
    exact Y _ G B ys_fr_r (fun G1 B1 f1 => Y' _ G1 B1 f1 (fun G2 B2 f2 => br_t (by decide) ⟨rfl, keep G2 B2 f2⟩))
  · obtain ⟨q1, q2, _, _⟩ := qh_cell h w1
    rcases hab' with ⟨rfl, rfl⟩ | ⟨w', w1', rfl, rfl⟩
    · refine br_f (nI_pos (by omega)) <| br_f (by decide) ?_
      unfold wpY_same uv_Y
      exact Y _ G B ys_fr_r (fun G1 B1 f1 => Y' _ G1 B1 f1 (fun G2 B2 f2 => br_f (nI_pos (by omega)) <| br_f (by decide) ⟨rfl, keep G2 B2 f2⟩))
    · obtain ⟨q1', q2', _, _⟩ := qh_cell h w1'
      by_cases e : w = w'
      · subst e
        refine br_f (nI_pos (by omega)) <| br_t (nI_pos' (by omega)) <| br_t rfl ?_
        unfold wpY_same uv_Y
        exact Y _ G B ys_fr_r (fun G1 B1 f1 => Y' _ G1 B1 f1 (fun G2 B2 f2 => br_f (nI_pos (by omega)) <| br_t (nI_pos' (by omega)) <| br_t rfl ⟨rfl, keep G2 B2 f2⟩))
      · refine br_f (nI_pos (by omega)) <| br_t (nI_pos' (by omega)) <| br_f (fun z => e ((nI_eq (by omega) (by omega)).mp z)) ?_
        unfold wpY_same uv_Y
        exact Y _ G B ys_fr_r (fun G1 B1 f1 => Y' _ G1 B1 f1 (fun G2 B2 f2 => br_f (nI_pos (by omega)) <| br_t (nI_pos' (by omega)) <| br_f (fun z => e (h.2.2.2.2.1.2.2.1 w w' w1 w1' ((nI_eq (by omega) (by omega)).mp z))) ⟨rfl, keep G2 B2 f2⟩))
end
