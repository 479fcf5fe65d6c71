section
theorem pk_us {f : Nat → Int32} {k : Nat} {x : Int32} : upd f k x k = x := if_pos rfl
theorem pk_un {f : Nat → Int32} {k j : Nat} {x : Int32} (h : j ≠ k) : upd f k x j = f j := if_neg h
theorem pk_sub {a b : Nat} (h : b ≤ a) : nI a - nI b = nI (a - b) := by
  obtain ⟨c, rfl⟩ : ∃ c, a = c + b := ⟨a - b, by omega⟩
  rw [← nI_add, Int32.add_sub_cancel, Nat.add_sub_cancel]
theorem pk_m1 (n : Nat) : nI (n + 1) + (-1) = nI n := by
  rw [← nI_1, Int32.add_assoc, show (1 : Int32) + (-1) = 0 from rfl, Int32.add_zero]
theorem pk_mul (a b : Nat) : nI a * nI b = nI (a * b) := (Int32.ofNat_mul a b).symm
theorem pk_div {a d : Nat} (ha : a < 2 ^ 31) (h0 : 0 < d) (hd : d < 2 ^ 31) : nI a / nI d = nI (a / d) := by
  apply Int32.toInt_inj.mp
  rw [lg_idiv_nonneg (by rw [nI_toInt ha]; omega) (by rw [nI_toInt hd]; omega), nI_toInt ha, nI_toInt hd, nI_toInt (Nat.lt_of_le_of_lt (Nat.div_le_self a d) ha)]
  first | rfl | exact (Int.natCast_ediv _ _).symm
theorem pk_rem {a d : Nat} (ha : a < 2 ^ 31) (h0 : 0 < d) (hd : d < 2 ^ 31) : nI a - nI a / nI d * nI d = nI (a % d) := by
  rw [pk_div ha h0 hd, pk_mul, pk_sub (Nat.div_mul_le_self a d)]
  exact congrArg nI (by have := Nat.div_add_mod' a d; omega)
theorem pk_sub_toInt {a b : Nat} (ha : a < 2 ^ 30) (hb : b < 2 ^ 30) : (nI a - nI b).toInt = (a : Int) - b := by
  rw [Int32.toInt_sub, nI_toInt (by omega), nI_toInt (by omega)]
  exact Int.bmod_eq_of_le (by omega) (by omega)
theorem pk_sneg {a b : Nat} (hb : b < 2 ^ 30) (h : a < b) : nI a - nI b < 0 := by
  rw [Int32.lt_iff_toInt_lt, pk_sub_toInt (by omega) hb, show (0 : Int32).toInt = 0 from by decide]
  omega
theorem pk_ix (x : Int32) {n : Nat} (hn : n < 2 ^ 31) : x < 0 ∨ nI n ≤ x ∨ ∃ j : Nat, j < n ∧ x = nI j := by
  by_cases h : x < 0
  · exact Or.inl h
  · obtain ⟨j, hj, rfl⟩ := nI_of h
    by_cases h2 : j < n
    · exact Or.inr (Or.inr ⟨j, h2, rfl⟩)
    · exact Or.inr (Or.inl (nI_le (by omega) hj))
theorem pk_le {x y : Int32} {A B : Prop} (a b : Nat) (f : a ≤ b → A) (g : b < a → B) (hx : x = nI a := by rfl) (hy : y = nI b := by rfl) (ha : a < 2 ^ 31 := by omega) (hb : b < 2 ^ 31 := by omega) : (x ≤ y → A) ∧ (¬ x ≤ y → B) := by
  subst hx hy
  rw [nI_leI ha hb]
  exact ⟨f, fun z => g (by omega)⟩
theorem pk_lt {x y : Int32} {A B : Prop} (a b : Nat) (f : a < b → A) (g : b ≤ a → B) (hx : x = nI a := by rfl) (hy : y = nI b := by rfl) (ha : a < 2 ^ 31 := by omega) (hb : b < 2 ^ 31 := by omega) : (x < y → A) ∧ (¬ x < y → B) := by
  subst hx hy
  rw [nI_ltI ha hb]
  exact ⟨f, fun z => g (by omega)⟩
theorem pk_eq {x y : Int32} {A B : Prop} (a b : Nat) (f : a = b → A) (g : a ≠ b → B) (hx : x = nI a := by rfl) (hy : y = nI b := by rfl) (ha : a < 2 ^ 31 := by omega) (hb : b < 2 ^ 31 := by omega) : (x = y → A) ∧ (¬ x = y → B) := by
  subst hx hy
  rw [nI_eq ha hb]
  exact ⟨f, g⟩
theorem pk_in {x : Int32} (n N : Nat) (h : n < N) (hx : x = nI n := by rfl) (hN : N < 2 ^ 31 := by omega) : vp_in x N := by
  subst hx
  exact vp_in_nI h hN
theorem pk_cl {x : Int32} (n : Nat) (hx : x = nI n := by rfl) (h : n < 2 ^ 31 := by omega) : x.toNatClampNeg = n := by
  subst hx
  exact nI_clamp h
theorem pk_tn {n : Nat} (h : n < 2 ^ 32) : (nI n).toBitVec.toNat = n := Nat.mod_eq_of_lt h
theorem pk_shl (a s : Int32) (k : Nat) (hs : (s.toBitVec.smod 32).toNat = k) : (a <<< s).toBitVec.toNat = a.toBitVec.toNat * 2 ^ k % 2 ^ 32 := by
  show (a.toBitVec <<< (s.toBitVec.smod 32).toNat).toNat = _
  rw [hs, BitVec.toNat_shiftLeft, Nat.shiftLeft_eq]
theorem pk_shlN {n : Nat} (s : Int32) (k : Nat) (hs : (s.toBitVec.smod 32).toNat = k) (h : n * 2 ^ k < 2 ^ 32) : nI n <<< s = nI (n * 2 ^ k) := by
  apply Int32.toBitVec_inj.mp
  apply BitVec.eq_of_toNat_eq
  have hn : n < 2 ^ 32 := Nat.lt_of_le_of_lt (Nat.le_mul_of_pos_right n (Nat.two_pow_pos k)) h
  rw [pk_shl _ _ k hs, pk_tn hn, pk_tn h, Nat.mod_eq_of_lt h]
theorem pk_shr (a s : Int32) (k : Nat) (hs : (s.toBitVec.smod 32).toNat = k) : (a >>> s).toInt = a.toInt >>> k := by
  show (a.toBitVec.sshiftRight (s.toBitVec.smod 32).toNat).toInt = _
  rw [hs, BitVec.toInt_sshiftRight]
  rfl
theorem pk_shrN {n : Nat} (h : n < 2 ^ 31) (s : Int32) (k : Nat) (hs : (s.toBitVec.smod 32).toNat = k) : nI n >>> s = nI (n / 2 ^ k) := by
  apply Int32.toInt_inj.mp
  have h2 : n / 2 ^ k ≤ n := Nat.div_le_self _ _
  rw [pk_shr _ _ k hs, nI_toInt h, nI_toInt (by omega), Int.shiftRight_eq_div_pow]
  rfl
theorem pk_vb (z : Int32) : vp_nar .byte z.toInt8.toInt32 = z.toInt8.toInt32 := by rw [vp_nar_byte]; simp
theorem sb_m1 {p : Nat} (h : 0 < p) : nI p + (-1) = nI (p - 1) := by
  obtain ⟨q, rfl⟩ : ∃ q, p = q + 1 := ⟨p - 1, by omega⟩
  exact pk_m1 q
end
section
/-- the open places after k tokens of the formula from cell b on -/
def tv_op (t : Nat → Nat) (b : Nat) : Nat → Nat
  | 0 => 1
  | k + 1 => if t (b + k) = 0 then tv_op t b k else if t (b + k) ≤ 3 then tv_op t b k + 1 else tv_op t b k - 1
/-- the roots of what is read from cell k on, out of those from cell k + 1 on -/
def tv_st (x k : Nat) (R : List Nat) : List Nat :=
  if 4 ≤ x then k :: R else if x = 0 then k :: R.drop 1 else k :: R.drop 2
def tv_rt (t : Nat → Nat) : Nat → Nat → List Nat
  | _, 0 => []
  | k, d + 1 => tv_st (t k) k (tv_rt t (k + 1) d)
def tv_R (t : Nat → Nat) (e k : Nat) : List Nat := tv_rt t k (e - k)
theorem tv_R_end (t : Nat → Nat) (e : Nat) : tv_R t e e = [] := by
  unfold tv_R
  rw [Nat.sub_self]
  rfl
theorem tv_R_step {t : Nat → Nat} {e k : Nat} (h : k < e) : tv_R t e k = tv_st (t k) k (tv_R t e (k + 1)) := by
  unfold tv_R
  obtain ⟨d, hd⟩ : ∃ d, e - k = d + 1 := ⟨e - k - 1, by omega⟩
  rw [hd, show e - (k + 1) = d by omega]
  rfl
theorem tv_st_cons (x k : Nat) (R : List Nat) : ∃ r, tv_st x k R = k :: r := by
  unfold tv_st
  split
  · exact ⟨_, rfl⟩
  · split
    · exact ⟨_, rfl⟩
    · exact ⟨_, rfl⟩
theorem tv_st_lf {x k : Nat} {R : List Nat} (h : 4 ≤ x) : tv_st x k R = k :: R := by
  unfold tv_st
  rw [if_pos h]
theorem tv_st_un {x k : Nat} {R : List Nat} (h : x = 0) : tv_st x k R = k :: R.drop 1 := by
  unfold tv_st
  rw [if_neg (by omega), if_pos h]
theorem tv_st_bi {x k : Nat} {R : List Nat} (h : 0 < x) (h4 : x < 4) : tv_st x k R = k :: R.drop 2 := by
  unfold tv_st
  rw [if_neg (by omega), if_neg (by omega)]
theorem tv_op_un {t : Nat → Nat} {b k : Nat} (h : t (b + k) = 0) : tv_op t b (k + 1) = tv_op t b k := by
  show (if _ then _ else _) = _
  rw [if_pos h]
theorem tv_op_bi {t : Nat → Nat} {b k : Nat} (h : 0 < t (b + k)) (h4 : t (b + k) < 4) : tv_op t b (k + 1) = tv_op t b k + 1 := by
  show (if _ then _ else _) = _
  rw [if_neg (by omega), if_pos (by omega)]
theorem tv_op_lf {t : Nat → Nat} {b k : Nat} (h : 4 ≤ t (b + k)) : tv_op t b (k + 1) = tv_op t b k - 1 := by
  show (if _ then _ else _) = _
  rw [if_neg (by omega), if_neg (by omega)]
theorem tv_k3 (x : Nat) : 4 ≤ x ∨ x = 0 ∨ (0 < x ∧ x < 4) := by omega
def tv_So (lo hi : Nat) (R : List Nat) : Prop := R.Pairwise (fun a b => a < b) ∧ ∀ r ∈ R, lo ≤ r ∧ r < hi
theorem tv_so_c {k e : Nat} {R : List Nat} (j : Nat) (hk : k < e) (h : tv_So (k + 1) e R) : tv_So k e (k :: R.drop j) := by
  refine ⟨List.Pairwise.cons (fun r hr => ?_) (h.1.sublist (List.drop_sublist j R)), fun r hr => ?_⟩
  · have := h.2 r (List.mem_of_mem_drop hr)
    omega
  · rcases List.mem_cons.mp hr with rfl | hr
    · omega
    · have := h.2 r (List.mem_of_mem_drop hr)
      omega
theorem tv_R_so (t : Nat → Nat) (e : Nat) : ∀ d k, k + d = e → tv_So k e (tv_R t e k) := by
  intro d
  induction d with
  | zero =>
    intro k hk
    obtain rfl : k = e := by omega
    rw [tv_R_end]
    exact ⟨List.Pairwise.nil, fun r hr => nomatch hr⟩
  | succ d ih =>
    intro k hk
    have h := ih (k + 1) (by omega)
    have hk' : k < e := by omega
    rw [tv_R_step hk']
    rcases tv_k3 (t k) with c | c | c
    · rw [tv_st_lf c]
      exact tv_so_c 0 hk' h
    · rw [tv_st_un c]
      exact tv_so_c 1 hk' h
    · rw [tv_st_bi c.1 c.2]
      exact tv_so_c 2 hk' h
/-- n tokens from cell b on are a whole formula, none of its beginnings is -/
def tv_Cp (t : Nat → Nat) (b n : Nat) : Prop := (∀ k, k < n → 0 < tv_op t b k) ∧ tv_op t b n = 0
theorem tv_len {t : Nat → Nat} {b n : Nat} (hc : tv_Cp t b n) : ∀ d k, k + d = n → (tv_R t (b + n) (b + k)).length = tv_op t b k := by
  intro d
  induction d with
  | zero =>
    intro k hk
    obtain rfl : k = n := by omega
    rw [tv_R_end, hc.2]
    rfl
  | succ d ih =>
    intro k hk
    have h := ih (k + 1) (by omega)
    have hp := hc.1 k (by omega)
    rw [tv_R_step (by omega)]
    have e : b + (k + 1) = b + k + 1 := by omega
    rw [e] at h
    rcases tv_k3 (t (b + k)) with c | c | c
    · rw [tv_st_lf c, List.length_cons, h, tv_op_lf c]
      omega
    · rw [tv_st_un c, List.length_cons, List.length_drop, h, tv_op_un c]
      omega
    · rw [tv_st_bi c.1 c.2, List.length_cons, List.length_drop, h, tv_op_bi c.1 c.2]
      omega
theorem tv_head {t : Nat → Nat} {e k : Nat} (h : 0 < (tv_R t e k).length) : ∃ r, tv_R t e k = k :: r := by
  by_cases hk : k < e
  · rw [tv_R_step hk]
    exact tv_st_cons _ _ _
  · have e0 : e - k = 0 := by omega
    unfold tv_R at h
    rw [e0] at h
    exact absurd h (Nat.lt_irrefl 0)
theorem tv_loc {t : Nat → Nat} {b n k : Nat} (hc : tv_Cp t b n) (hk : k < n) : 4 ≤ t (b + k) ∨ (t (b + k) = 0 ∧ ∃ r, tv_R t (b + n) (b + k + 1) = (b + k + 1) :: r) ∨ (0 < t (b + k) ∧ t (b + k) < 4 ∧ ∃ s r, tv_R t (b + n) (b + k + 1) = (b + k + 1) :: s :: r) := by
  have hl := tv_len hc (n - (k + 1)) (k + 1) (by omega)
  have hp := hc.1 k hk
  rw [show b + (k + 1) = b + k + 1 by omega] at hl
  rcases tv_k3 (t (b + k)) with c | c | c
  · exact Or.inl c
  · rw [tv_op_un c] at hl
    exact Or.inr (Or.inl ⟨c, tv_head (by omega)⟩)
  · rw [tv_op_bi c.1 c.2] at hl
    obtain ⟨r, hr⟩ := tv_head (t := t) (e := b + n) (k := b + k + 1) (by omega)
    rw [hr, List.length_cons] at hl
    match r, hl, hr with
    | [], hl, _ => exact absurd hl (by simp; omega)
    | s :: r, _, hr => exact Or.inr (Or.inr ⟨c.1, c.2, s, r, hr⟩)
theorem tv_so2 {t : Nat → Nat} {e k s : Nat} {r : List Nat} (h : tv_R t e k = k :: s :: r) : k < s ∧ s < e := by
  by_cases hk : k ≤ e
  · have hs := tv_R_so t e (e - k) k (by omega)
    rw [h] at hs
    have h1 := List.rel_of_pairwise_cons hs.1 (List.mem_cons_self : s ∈ s :: r)
    exact ⟨h1, (hs.2 s (List.mem_cons_of_mem _ List.mem_cons_self)).2⟩
  · have e0 : e - k = 0 := by omega
    unfold tv_R at h
    rw [e0] at h
    exact absurd h (by intro z; cases z)
theorem tv_so1 {t : Nat → Nat} {e k j : Nat} {r : List Nat} (h : tv_R t e k = j :: r) : j < e := by
  by_cases hk : k ≤ e
  · have hs := tv_R_so t e (e - k) k (by omega)
    rw [h] at hs
    exact (hs.2 j List.mem_cons_self).2
  · have e0 : e - k = 0 := by omega
    unfold tv_R at h
    rw [e0] at h
    exact absurd h (by intro z; cases z)
/-- a whole formula, and sc has the second parts of its tokens -/
def tv_Fm (t sc : Nat → Nat) (b n : Nat) : Prop := tv_Cp t b n ∧ ∀ k, k < n → 0 < t (b + k) → t (b + k) < 4 → ∃ r, tv_R t (b + n) (b + k + 1) = (b + k + 1) :: sc (b + k) :: r
/-- the cells of the formulas that are ready -/
def tv_Q (t sc n : Nat → Nat) (c : Nat) : Prop := ∃ f, f < 2 ∧ tv_Fm t sc (9 * f) (n f) ∧ n f ≤ 9 ∧ 9 * f ≤ c ∧ c < 9 * f + n f
theorem tv_Q_lt {t sc n : Nat → Nat} {c : Nat} (h : tv_Q t sc n c) : c < 18 := by
  obtain ⟨f, hf, _, hn, h1, h2⟩ := h
  omega
theorem tv_Q_un {t sc n : Nat → Nat} {c : Nat} (h : tv_Q t sc n c) (h0 : t c = 0) : tv_Q t sc n (c + 1) := by
  obtain ⟨f, hf, hF, hn, h1, h2⟩ := h
  obtain ⟨k, rfl⟩ : ∃ k, c = 9 * f + k := ⟨c - 9 * f, by omega⟩
  rcases tv_loc hF.1 (k := k) (by omega) with g | ⟨_, r, g⟩ | ⟨g, _⟩
  · omega
  · have := tv_so1 g
    exact ⟨f, hf, hF, hn, by omega, by omega⟩
  · omega
theorem tv_Q_bi {t sc n : Nat → Nat} {c : Nat} (h : tv_Q t sc n c) (h0 : 0 < t c) (h4 : t c < 4) : tv_Q t sc n (c + 1) ∧ tv_Q t sc n (sc c) ∧ c + 1 < sc c := by
  obtain ⟨f, hf, hF, hn, h1, h2⟩ := h
  obtain ⟨k, rfl⟩ : ∃ k, c = 9 * f + k := ⟨c - 9 * f, by omega⟩
  obtain ⟨r, hr⟩ := hF.2 k (by omega) h0 h4
  have h3 := tv_so1 hr
  have h5 := tv_so2 hr
  exact ⟨⟨f, hf, hF, hn, by omega, by omega⟩, ⟨f, hf, hF, hn, by omega, by omega⟩, by omega⟩
/-- a fold over the tree below a cell -/
def tv_fd (lf : Nat → Nat) (un : Nat → Nat) (bi : Nat → Nat → Nat → Nat) (t sc : Nat → Nat) : Nat → Nat → Nat
  | 0, _ => 0
  | d + 1, c => if 4 ≤ t c then lf (t c) else if t c = 0 then un (tv_fd lf un bi t sc d (c + 1)) else bi (t c) (tv_fd lf un bi t sc d (c + 1)) (tv_fd lf un bi t sc d (sc c))
section
variable {lf : Nat → Nat} {un : Nat → Nat} {bi : Nat → Nat → Nat → Nat} {t sc n : Nat → Nat}
theorem tv_fd_lf {d c : Nat} (h : 4 ≤ t c) : tv_fd lf un bi t sc (d + 1) c = lf (t c) := by
  show (if _ then _ else _) = _
  rw [if_pos h]
theorem tv_fd_un {d c : Nat} (h : t c = 0) : tv_fd lf un bi t sc (d + 1) c = un (tv_fd lf un bi t sc d (c + 1)) := by
  show (if _ then _ else _) = _
  rw [if_neg (by omega), if_pos h]
theorem tv_fd_bi {d c : Nat} (h : 0 < t c) (h4 : t c < 4) : tv_fd lf un bi t sc (d + 1) c = bi (t c) (tv_fd lf un bi t sc d (c + 1)) (tv_fd lf un bi t sc d (sc c)) := by
  show (if _ then _ else _) = _
  rw [if_neg (by omega), if_neg (by omega)]
theorem tv_fd_ind : ∀ d d' c, tv_Q t sc n c → 18 - c ≤ d → 18 - c ≤ d' → tv_fd lf un bi t sc d c = tv_fd lf un bi t sc d' c := by
  intro d
  induction d with
  | zero =>
    intro d' c hQ h1 h2
    have := tv_Q_lt hQ
    omega
  | succ d ih =>
    intro d' c hQ h1 h2
    have h3 := tv_Q_lt hQ
    obtain ⟨d', rfl⟩ : ∃ x, d' = x + 1 := ⟨d' - 1, by omega⟩
    rcases tv_k3 (t c) with g | g | g
    · rw [tv_fd_lf g, tv_fd_lf g]
    · rw [tv_fd_un g, tv_fd_un g, ih d' (c + 1) (tv_Q_un hQ g) (by omega) (by omega)]
    · have hb := tv_Q_bi hQ g.1 g.2
      rw [tv_fd_bi g.1 g.2, tv_fd_bi g.1 g.2, ih d' (c + 1) hb.1 (by omega) (by omega), ih d' (sc c) hb.2.1 (by omega) (by omega)]
theorem tv_f18_un {c : Nat} (hQ : tv_Q t sc n c) (h : t c = 0) : tv_fd lf un bi t sc 18 c = un (tv_fd lf un bi t sc 18 (c + 1)) := by
  rw [show (18 : Nat) = 17 + 1 from rfl, tv_fd_un h, tv_fd_ind 17 (17 + 1) (c + 1) (tv_Q_un hQ h) (by omega) (by omega)]
theorem tv_f18_bi {c : Nat} (hQ : tv_Q t sc n c) (h : 0 < t c) (h4 : t c < 4) : tv_fd lf un bi t sc 18 c = bi (t c) (tv_fd lf un bi t sc 18 (c + 1)) (tv_fd lf un bi t sc 18 (sc c)) := by
  have hb := tv_Q_bi hQ h h4
  rw [show (18 : Nat) = 17 + 1 from rfl, tv_fd_bi h h4, tv_fd_ind 17 (17 + 1) (c + 1) hb.1 (by omega) (by omega), tv_fd_ind 17 (17 + 1) (sc c) hb.2.1 (by omega) (by omega)]
end
end
section
/-! the truth tables, values, sizes -/
def tv_ng (l x : Nat) : Nat := if l = 2 then (if x = 0 then 2 else 0) else 2 - x
def tv_ap (l k p q : Nat) : Nat := if k = 1 then (if q ≤ p then q else p) else if k = 2 then (if p ≤ q then q else p) else if l = 0 then (if 2 ≤ 2 - p + q then 2 else 2 - p + q) else if l = 1 then (if 2 - p ≤ q then q else 2 - p) else if q < p then q else 2
def tv_dg (a l : Nat) : Nat := if l = 0 then a % 3 else if l = 1 then a / 3 % 3 else if l = 2 then a / 9 % 3 else a / 27 % 3
theorem tv_dg_lt (a l : Nat) : tv_dg a l < 3 := by
  unfold tv_dg
  split
  · omega
  · split
    · omega
    · split <;> omega
theorem tv_ng_lt (l x : Nat) : tv_ng l x < 3 := by
  unfold tv_ng
  split
  · split <;> omega
  · omega
theorem tv_ap_lt {l k p q : Nat} (hp : p < 3) (hq : q < 3) : tv_ap l k p q < 3 := by
  unfold tv_ap
  split
  · split <;> omega
  · split
    · split <;> omega
    · split
      · split <;> omega
      · split
        · split <;> omega
        · split <;> omega
/-- the value of the formula at cell c under assignment a -/
def tv_V (l : Nat) (t sc : Nat → Nat) (a c : Nat) : Nat := tv_fd (fun x => tv_dg a (x - 4)) (tv_ng l) (tv_ap l) t sc 18 c
def tv_W (t sc : Nat → Nat) (c : Nat) : Nat := tv_fd (fun _ => 1) (fun p => p + 1) (fun _ p q => p + q + 1) t sc 18 c
def tv_B (t sc : Nat → Nat) (c : Nat) : Nat := tv_fd (fun _ => 0) (fun p => p) (fun _ p q => p + q + 1) t sc 18 c
section
variable {l : Nat} {t sc n : Nat → Nat} {a c : Nat}
theorem tv_V_lf (h : 4 ≤ t c) : tv_V l t sc a c = tv_dg a (t c - 4) := by
  unfold tv_V
  rw [show (18 : Nat) = 17 + 1 from rfl, tv_fd_lf h]
theorem tv_V_un (hQ : tv_Q t sc n c) (h : t c = 0) : tv_V l t sc a c = tv_ng l (tv_V l t sc a (c + 1)) := tv_f18_un hQ h
theorem tv_V_bi (hQ : tv_Q t sc n c) (h : 0 < t c) (h4 : t c < 4) : tv_V l t sc a c = tv_ap l (t c) (tv_V l t sc a (c + 1)) (tv_V l t sc a (sc c)) := tv_f18_bi hQ h h4
theorem tv_W_lf (h : 4 ≤ t c) : tv_W t sc c = 1 := by
  unfold tv_W
  rw [show (18 : Nat) = 17 + 1 from rfl, tv_fd_lf h]
theorem tv_W_un (hQ : tv_Q t sc n c) (h : t c = 0) : tv_W t sc c = tv_W t sc (c + 1) + 1 := tv_f18_un hQ h
theorem tv_W_bi (hQ : tv_Q t sc n c) (h : 0 < t c) (h4 : t c < 4) : tv_W t sc c = tv_W t sc (c + 1) + tv_W t sc (sc c) + 1 := tv_f18_bi hQ h h4
theorem tv_B_lf (h : 4 ≤ t c) : tv_B t sc c = 0 := by
  unfold tv_B
  rw [show (18 : Nat) = 17 + 1 from rfl, tv_fd_lf h]
theorem tv_B_un (hQ : tv_Q t sc n c) (h : t c = 0) : tv_B t sc c = tv_B t sc (c + 1) := tv_f18_un hQ h
theorem tv_B_bi (hQ : tv_Q t sc n c) (h : 0 < t c) (h4 : t c < 4) : tv_B t sc c = tv_B t sc (c + 1) + tv_B t sc (sc c) + 1 := tv_f18_bi hQ h h4
theorem tv_fd_lt : ∀ d c, tv_fd (fun x => tv_dg a (x - 4)) (tv_ng l) (tv_ap l) t sc d c < 3 := by
  intro d
  induction d with
  | zero =>
    intro c
    show 0 < 3
    omega
  | succ d ih =>
    intro c
    rcases tv_k3 (t c) with g | g | g
    · rw [tv_fd_lf g]
      exact tv_dg_lt _ _
    · rw [tv_fd_un g]
      exact tv_ng_lt _ _
    · rw [tv_fd_bi g.1 g.2]
      exact tv_ap_lt (ih _) (ih _)
theorem tv_V_lt : tv_V l t sc a c < 3 := tv_fd_lt 18 c
theorem tv_BW : ∀ m c, 18 - c ≤ m → tv_Q t sc n c → 2 * tv_B t sc c + 1 ≤ tv_W t sc c := by
  intro m
  induction m with
  | zero =>
    intro c hm hQ
    have := tv_Q_lt hQ
    omega
  | succ m ih =>
    intro c hm hQ
    have h3 := tv_Q_lt hQ
    rcases tv_k3 (t c) with g | g | g
    · rw [tv_B_lf g, tv_W_lf g]
      omega
    · have h1 := ih (c + 1) (by omega) (tv_Q_un hQ g)
      rw [tv_B_un hQ g, tv_W_un hQ g]
      omega
    · have hb := tv_Q_bi hQ g.1 g.2
      have h1 := ih (c + 1) (by omega) hb.1
      have h2 := ih (sc c) (by omega) hb.2.1
      rw [tv_B_bi hQ g.1 g.2, tv_W_bi hQ g.1 g.2]
      omega
end
def tv_sm (g : Nat → Nat) : List Nat → Nat
  | [] => 0
  | r :: R => g r + tv_sm g R
theorem tv_Wsum {t sc n : Nat → Nat} {f : Nat} (hf : f < 2) (hF : tv_Fm t sc (9 * f) (n f)) (hn : n f ≤ 9) : ∀ d k, k + d = n f → tv_sm (tv_W t sc) (tv_R t (9 * f + n f) (9 * f + k)) = d := by
  intro d
  induction d with
  | zero =>
    intro k hk
    obtain rfl : k = n f := by omega
    rw [tv_R_end]
    rfl
  | succ d ih =>
    intro k hk
    have h := ih (k + 1) (by omega)
    have hQ : tv_Q t sc n (9 * f + k) := ⟨f, hf, hF, hn, by omega, by omega⟩
    rw [show 9 * f + (k + 1) = 9 * f + k + 1 by omega] at h
    rw [tv_R_step (by omega)]
    rcases tv_loc hF.1 (k := k) (by omega) with g | ⟨g, r, hr⟩ | ⟨g, g4, _⟩
    · rw [tv_st_lf g]
      show tv_W t sc (9 * f + k) + tv_sm _ _ = _
      rw [h, tv_W_lf g]
      omega
    · rw [tv_st_un g, hr]
      rw [hr] at h
      have h' : tv_W t sc (9 * f + k + 1) + tv_sm (tv_W t sc) r = d := h
      show tv_W t sc (9 * f + k) + tv_sm (tv_W t sc) r = _
      rw [tv_W_un hQ g]
      omega
    · obtain ⟨r, hr⟩ := hF.2 k (by omega) g g4
      rw [tv_st_bi g g4, hr]
      rw [hr] at h
      have h' : tv_W t sc (9 * f + k + 1) + (tv_W t sc (sc (9 * f + k)) + tv_sm (tv_W t sc) r) = d := h
      show tv_W t sc (9 * f + k) + tv_sm (tv_W t sc) r = _
      rw [tv_W_bi hQ g g4]
      omega
theorem tv_n0 {t sc : Nat → Nat} {b n : Nat} (hF : tv_Fm t sc b n) : 0 < n := by
  have h := hF.1.2
  match n, h with
  | 0, h => exact absurd h (by show ¬ (1 : Nat) = 0; omega)
  | n + 1, _ => omega
theorem tv_Wroot {t sc n : Nat → Nat} {f : Nat} (hf : f < 2) (hF : tv_Fm t sc (9 * f) (n f)) (hn : n f ≤ 9) : tv_W t sc (9 * f) = n f := by
  have h := tv_Wsum hf hF hn (n f) 0 (by omega)
  have hl := tv_len hF.1 (n f) 0 (by omega)
  rw [Nat.add_zero] at h hl
  obtain ⟨r, hr⟩ := tv_head (t := t) (e := 9 * f + n f) (k := 9 * f) (by rw [hl]; show 0 < 1; omega)
  rw [hr] at h hl
  have h1 : r.length + 1 = 1 := hl
  match r, h1, h with
  | [], _, h =>
    have h' : tv_W t sc (9 * f) + 0 = n f := h
    omega
  | _ :: _, h1, _ => exact absurd h1 (by simp)
theorem tv_Qroot {t sc n : Nat → Nat} {f : Nat} (hf : f < 2) (hF : tv_Fm t sc (9 * f) (n f)) (hn : n f ≤ 9) : tv_Q t sc n (9 * f) := by
  have := tv_n0 hF
  exact ⟨f, hf, hF, hn, by omega, by omega⟩
/-! sets of values -/
def tv_sp (p : Nat → Bool) : Nat → Nat
  | 0 => 0
  | i + 1 => tv_sp p i + (if p i = true then 2 ^ i else 0)
theorem tv_sp3 (p : Nat → Bool) : tv_sp p 3 = (if p 0 = true then 1 else 0) + (if p 1 = true then 2 else 0) + (if p 2 = true then 4 else 0) := by
  show 0 + (if p 0 = true then 2 ^ 0 else 0) + (if p 1 = true then 2 ^ 1 else 0) + (if p 2 = true then 2 ^ 2 else 0) = _
  rw [Nat.zero_add]
theorem tv_sp_lt (p : Nat → Bool) : tv_sp p 3 < 8 := by
  rw [tv_sp3]
  split <;> split <;> split <;> omega
theorem tv_sp_p (p : Nat → Bool) : ∀ i, tv_sp p i < 2 ^ i := by
  intro i
  induction i with
  | zero => exact Nat.zero_lt_one
  | succ i ih =>
    show tv_sp p i + (if p i = true then 2 ^ i else 0) < 2 ^ (i + 1)
    rw [Nat.pow_succ]
    split <;> omega
theorem tv_b3 : ∀ b0 b1 b2 : Bool, ((((if b0 = true then 1 else 0) + if b1 = true then 2 else 0) + if b2 = true then 4 else 0).testBit 0 = b0) ∧ ((((if b0 = true then 1 else 0) + if b1 = true then 2 else 0) + if b2 = true then 4 else 0).testBit 1 = b1) ∧ ((((if b0 = true then 1 else 0) + if b1 = true then 2 else 0) + if b2 = true then 4 else 0).testBit 2 = b2) := by decide
theorem tv_sp_bit (p : Nat → Bool) {x : Nat} (hx : x < 3) : (tv_sp p 3).testBit x = p x := by
  rw [tv_sp3]
  have h := tv_b3 (p 0) (p 1) (p 2)
  match x, hx with
  | 0, _ => exact h.1
  | 1, _ => exact h.2.1
  | 2, _ => exact h.2.2
def tv_bN (l v : Nat) : Nat := tv_sp (fun x => v.testBit (tv_ng l x)) 3
def tv_pt (l k x v : Nat) : Nat := tv_sp (fun y => v.testBit (tv_ap l k x y)) 3
theorem tv_bN_bit {l v x : Nat} (hx : x < 3) : (tv_bN l v).testBit x = v.testBit (tv_ng l x) := tv_sp_bit _ hx
theorem tv_pt_bit {l k x v y : Nat} (hy : y < 3) : (tv_pt l k x v).testBit y = v.testBit (tv_ap l k x y) := tv_sp_bit _ hy
/-! demands -/
def tv_Sa (l : Nat) (t sc : Nat → Nat) (lf : Nat → Nat) (q : List (Nat × Nat)) : Prop :=
  ∃ a, a < 81 ∧ (∀ i, i < 4 → (lf i).testBit (tv_dg a i) = true) ∧ ∀ p ∈ q, p.2.testBit (tv_V l t sc a p.1) = true
def tv_sw (g : Nat → Nat) : List (Nat × Nat) → Nat
  | [] => 0
  | p :: q => g p.1 + tv_sw g q
theorem tv_sw_app (g : Nat → Nat) (q r : List (Nat × Nat)) : tv_sw g (q ++ r) = tv_sw g q + tv_sw g r := by
  induction q with
  | nil => show _ = 0 + _; rw [Nat.zero_add]; rfl
  | cons p q ih =>
    show g p.1 + tv_sw g (q ++ r) = g p.1 + tv_sw g q + tv_sw g r
    rw [ih, Nat.add_assoc]
section
variable {l : Nat} {t sc n : Nat → Nat} {lf : Nat → Nat} {q : List (Nat × Nat)} {c v : Nat}
theorem tv_sa_0 {i : Nat} (hi : i < 4) (h : lf i = 0) : ¬ tv_Sa l t sc lf q := by
  rintro ⟨a, _, h1, _⟩
  have := h1 i hi
  rw [h, Nat.zero_testBit] at this
  exact absurd this (by decide)
theorem tv_sa_z (h : (c, 0) ∈ q) : ¬ tv_Sa l t sc lf q := by
  rintro ⟨a, _, _, h1⟩
  have := h1 _ h
  rw [Nat.zero_testBit] at this
  exact absurd this (by decide)
theorem tv_sa_lf (h : 4 ≤ t c) (h8 : t c < 8) : tv_Sa l t sc lf ((c, v) :: q) ↔ tv_Sa l t sc (fun j => if j = t c - 4 then lf j &&& v else lf j) q := by
  constructor
  · rintro ⟨a, ha, h1, h2⟩
    refine ⟨a, ha, fun i hi => ?_, fun p hp => h2 p (List.mem_cons_of_mem _ hp)⟩
    have h3 := h2 _ List.mem_cons_self
    dsimp only at h3 ⊢
    rw [tv_V_lf h] at h3
    split
    · next e => rw [Nat.testBit_and, h1 i hi, e, h3]; rfl
    · exact h1 i hi
  · rintro ⟨a, ha, h1, h2⟩
    refine ⟨a, ha, fun i hi => ?_, fun p hp => ?_⟩
    · have h3 := h1 i hi
      dsimp only at h3
      split at h3
      · rw [Nat.testBit_and, Bool.and_eq_true] at h3
        exact h3.1
      · exact h3
    · rcases List.mem_cons.mp hp with rfl | hp
      · have h3 := h1 (t c - 4) (by omega)
        dsimp only at h3 ⊢
        rw [if_pos rfl, Nat.testBit_and, Bool.and_eq_true] at h3
        rw [tv_V_lf h]
        exact h3.2
      · exact h2 p hp
theorem tv_sa_un (hQ : tv_Q t sc n c) (h : t c = 0) : tv_Sa l t sc lf ((c, v) :: q) ↔ tv_Sa l t sc lf (q ++ [(c + 1, tv_bN l v)]) := by
  constructor
  · rintro ⟨a, ha, h1, h2⟩
    refine ⟨a, ha, h1, fun p hp => ?_⟩
    rcases List.mem_append.mp hp with hp | hp
    · exact h2 p (List.mem_cons_of_mem _ hp)
    · rcases List.mem_singleton.mp hp with rfl
      have h3 := h2 _ List.mem_cons_self
      dsimp only at h3 ⊢
      rw [tv_bN_bit tv_V_lt, ← tv_V_un hQ h]
      exact h3
  · rintro ⟨a, ha, h1, h2⟩
    refine ⟨a, ha, h1, fun p hp => ?_⟩
    rcases List.mem_cons.mp hp with rfl | hp
    · have h3 := h2 (c + 1, tv_bN l v) (List.mem_append.mpr (Or.inr (List.mem_singleton.mpr rfl)))
      dsimp only at h3 ⊢
      rw [tv_bN_bit tv_V_lt, ← tv_V_un hQ h] at h3
      exact h3
    · exact h2 p (List.mem_append.mpr (Or.inl hp))
theorem tv_sa_bi (hQ : tv_Q t sc n c) (h : 0 < t c) (h4 : t c < 4) : tv_Sa l t sc lf ((c, v) :: q) ↔ ∃ x, x < 3 ∧ tv_Sa l t sc lf (q ++ [(c + 1, 2 ^ x), (sc c, tv_pt l (t c) x v)]) := by
  constructor
  · rintro ⟨a, ha, h1, h2⟩
    refine ⟨tv_V l t sc a (c + 1), tv_V_lt, a, ha, h1, fun p hp => ?_⟩
    rcases List.mem_append.mp hp with hp | hp
    · exact h2 p (List.mem_cons_of_mem _ hp)
    · rcases List.mem_cons.mp hp with rfl | hp
      · dsimp only
        exact Nat.testBit_two_pow_self
      · rcases List.mem_singleton.mp hp with rfl
        have h3 := h2 _ List.mem_cons_self
        dsimp only at h3 ⊢
        rw [tv_pt_bit tv_V_lt, ← tv_V_bi hQ h h4]
        exact h3
  · rintro ⟨x, hx, a, ha, h1, h2⟩
    refine ⟨a, ha, h1, fun p hp => ?_⟩
    rcases List.mem_cons.mp hp with rfl | hp
    · have h3 := h2 (c + 1, 2 ^ x) (List.mem_append.mpr (Or.inr List.mem_cons_self))
      have h5 := h2 (sc c, tv_pt l (t c) x v) (List.mem_append.mpr (Or.inr (List.mem_cons_of_mem _ List.mem_cons_self)))
      dsimp only at h3 h5 ⊢
      rw [Nat.testBit_two_pow, decide_eq_true_eq] at h3
      rw [tv_pt_bit tv_V_lt, h3, ← tv_V_bi hQ h h4] at h5
      exact h5
    · exact h2 p (List.mem_append.mpr (Or.inl hp))
theorem tv_some : ∀ x, x < 8 → x ≠ 0 → ∃ v, v < 3 ∧ x.testBit v = true := by decide
theorem tv_dg_of {v0 v1 v2 v3 : Nat} (h0 : v0 < 3) (h1 : v1 < 3) (h2 : v2 < 3) (h3 : v3 < 3) : v0 + 3 * v1 + 9 * v2 + 27 * v3 < 81 ∧ tv_dg (v0 + 3 * v1 + 9 * v2 + 27 * v3) 0 = v0 ∧ tv_dg (v0 + 3 * v1 + 9 * v2 + 27 * v3) 1 = v1 ∧ tv_dg (v0 + 3 * v1 + 9 * v2 + 27 * v3) 2 = v2 ∧ tv_dg (v0 + 3 * v1 + 9 * v2 + 27 * v3) 3 = v3 := by
  refine ⟨by omega, ?_, ?_, ?_, ?_⟩
  · show (v0 + 3 * v1 + 9 * v2 + 27 * v3) % 3 = v0
    omega
  · show (v0 + 3 * v1 + 9 * v2 + 27 * v3) / 3 % 3 = v1
    omega
  · show (v0 + 3 * v1 + 9 * v2 + 27 * v3) / 9 % 3 = v2
    omega
  · show (v0 + 3 * v1 + 9 * v2 + 27 * v3) / 27 % 3 = v3
    omega
theorem tv_sa_nil (h : ∀ i, i < 4 → lf i < 8 ∧ lf i ≠ 0) : tv_Sa l t sc lf [] := by
  obtain ⟨v0, h0, b0⟩ := tv_some _ (h 0 (by omega)).1 (h 0 (by omega)).2
  obtain ⟨v1, h1, b1⟩ := tv_some _ (h 1 (by omega)).1 (h 1 (by omega)).2
  obtain ⟨v2, h2, b2⟩ := tv_some _ (h 2 (by omega)).1 (h 2 (by omega)).2
  obtain ⟨v3, h3, b3⟩ := tv_some _ (h 3 (by omega)).1 (h 3 (by omega)).2
  obtain ⟨ha, e0, e1, e2, e3⟩ := tv_dg_of h0 h1 h2 h3
  refine ⟨_, ha, fun i hi => ?_, fun p hp => nomatch hp⟩
  match i, hi with
  | 0, _ => rw [e0]; exact b0
  | 1, _ => rw [e1]; exact b1
  | 2, _ => rw [e2]; exact b2
  | 3, _ => rw [e3]; exact b3
end
end
section
/-! small walks of the class -/
theorem tv_b8 : ∀ c, c < 128 → (nI c).toInt8.toInt32 = nI c := by decide +kernel
theorem tv_by {c : Nat} (hc : c < 128) : vp_nar .byte (nI c).toInt8.toInt32 = nI c := by rw [pk_vb, tv_b8 c hc]
theorem tv_by' {c : Nat} (hc : c < 128) : vp_nar .byte (nI c) = nI c := by rw [vp_nar_byte, tv_b8 c hc]
theorem tv_bm1 : vp_nar .byte (-1) = -1 := by rw [vp_nar_byte]; decide
theorem tv_up {a : Nat → Int32} {x p : Int32} {i c : Nat} (hx : x = nI i) (hp : p = nI c) (hi : i < 1000) (hc : c < 128) : upd a x.toNatClampNeg (vp_nar .byte p.toInt8.toInt32) = upd a i (nI c) := by
  rw [hx, hp, nI_clamp (by omega), tv_by hc]
theorem tv_up' {a : Nat → Int32} {x p : Int32} {i c : Nat} (hx : x = nI i) (hp : p = nI c) (hi : i < 1000) (hc : c < 128) : upd a x.toNatClampNeg (vp_nar .byte p) = upd a i (nI c) := by
  rw [hx, hp, nI_clamp (by omega), tv_by' hc]
theorem tv_rd {a : Nat → Int32} {x y : Int32} {i : Nat} (hx : x = nI i) (hi : i < 1000) (h : a i = y) : a x.toNatClampNeg = y := by
  rw [hx, nI_clamp (by omega), h]
theorem tv_bit : ∀ v, v < 8 → ∀ x, x < 3 → (((nI v >>> (nI x &&& 31)) &&& 1) = 0 ↔ v.testBit x = false) := by decide +kernel
theorem tv_or : ∀ i, i < 3 → ∀ s, s < 2 ^ i → nI s ||| ((1 : Int32) <<< (nI i &&& 31)) = nI (s + 2 ^ i) := by decide +kernel
theorem tv_sh : ∀ i, i < 3 → (1 : Int32) <<< (nI i &&& 31) = nI (2 ^ i) := by decide +kernel
theorem tv_p8 : ∀ i, i < 3 → 2 ^ i < 8 := by decide
theorem tv_and : ∀ x, x < 8 → ∀ y, y < 8 → nI x &&& nI y = nI (x &&& y) ∧ (x &&& y) < 8 := by decide +kernel
theorem tv_sp_0 {p : Nat → Bool} {i : Nat} (h : p i = false) : tv_sp p (i + 1) = tv_sp p i := by
  show tv_sp p i + (if p i = true then 2 ^ i else 0) = _
  rw [if_neg (by rw [h]; decide), Nat.add_zero]
theorem tv_sp_1 {p : Nat → Bool} {i : Nat} (h : p i = true) : tv_sp p (i + 1) = tv_sp p i + 2 ^ i := by
  show tv_sp p i + (if p i = true then 2 ^ i else 0) = _
  rw [if_pos h]
theorem tv_nf {x : Bool} {c : Prop} (h : c ↔ x = false) (hc : ¬ c) : x = true := by
  cases x with
  | true => rfl
  | false => exact absurd (h.mpr rfl) hc
section
variable {xl xc xd xh xf xg : Int32} {aT aZ aK aC aW aD aV aL bD bH bL bT aO aR : Nat → Int32}
theorem tv_xnot {post : Int32 → Prop} {l x : Nat} (hl : l < 3) (hx : x < 3) (h : post (nI (tv_ng l x))) : wpX_not post (nI l, xc, xd, xh, xf, xg, aT, aZ, aK, aC, aW, aD, aV, aL, bD, bH, bL, bT, aO, aR) (nI x) := by
  unfold tv_ng at h
  refine pk_eq l 2 (fun e => ?_) (fun e => ?_)
  · rw [if_pos e] at h
    refine pk_eq x 0 (fun e2 => ?_) (fun e2 => ?_)
    · rw [if_pos e2] at h
      exact h
    · rw [if_neg e2] at h
      exact h
  · rw [if_neg e] at h
    rw [show (2 : Int32) - nI x = nI (2 - x) from pk_sub (a := 2) (by omega)]
    exact h
theorem tv_xap {post : Int32 → Prop} {l k p q : Nat} (hl : l < 3) (hk : k < 8) (hp : p < 3) (hq : q < 3) (h : post (nI (tv_ap l k p q))) : wpX_apply post (nI l, xc, xd, xh, xf, xg, aT, aZ, aK, aC, aW, aD, aV, aL, bD, bH, bL, bT, aO, aR) (nI k) (nI p) (nI q) := by
  have e3 : (2 : Int32) - nI p = nI (2 - p) := pk_sub (a := 2) (by omega)
  have e4 : (2 : Int32) - nI p + nI q = nI (2 - p + q) := by rw [e3, nI_add]
  unfold tv_ap at h
  refine pk_eq k 1 (fun e => ?_) (fun e => ?_)
  · rw [if_pos e] at h
    refine pk_le q p (fun e2 => ?_) (fun e2 => ?_)
    · rw [if_pos e2] at h
      exact h
    · rw [if_neg (by omega)] at h
      exact h
  · rw [if_neg e] at h
    refine pk_eq k 2 (fun e => ?_) (fun e => ?_)
    · rw [if_pos e] at h
      refine pk_le p q (fun e2 => ?_) (fun e2 => ?_)
      · rw [if_pos e2] at h
        exact h
      · rw [if_neg (by omega)] at h
        exact h
    · rw [if_neg e] at h
      refine pk_eq l 0 (fun e => ?_) (fun e => ?_)
      · rw [if_pos e] at h
        refine pk_le 2 (2 - p + q) (fun e2 => ?_) (fun e2 => ?_) rfl e4
        · rw [if_pos e2] at h
          exact h
        · rw [if_neg (by omega)] at h
          rw [e4]
          exact h
      · rw [if_neg e] at h
        refine pk_eq l 1 (fun e => ?_) (fun e => ?_)
        · rw [if_pos e] at h
          refine pk_le (2 - p) q (fun e2 => ?_) (fun e2 => ?_) e3 rfl
          · rw [if_pos e2] at h
            exact h
          · rw [if_neg (by omega)] at h
            rw [e3]
            exact h
        · rw [if_neg e] at h
          refine pk_lt q p (fun e2 => ?_) (fun e2 => ?_)
          · rw [if_pos e2] at h
            exact h
          · rw [if_neg (by omega)] at h
            exact h
theorem tv_xvo {post : Int32 → Prop} {m : Nat} (hm : m < 4) : ∀ d i a, i + d = m → a < 1000 → post (nI (a / 3 ^ d % 3)) → wX_valueOf_4 post (nI m) (d + 1) (nI a) (nI i) := by
  intro d
  induction d with
  | zero =>
    intro i a hi ha h
    refine br_t (nI_le (by omega) (by omega)) ⟨by decide, ?_⟩
    rw [show nI a - nI a / 3 * 3 = nI (a % 3) from pk_rem (d := 3) (by omega) (by omega) (by omega)]
    rw [Nat.pow_zero, Nat.div_one] at h
    exact h
  | succ d ih =>
    intro i a hi ha h
    refine br_f (nI_ge (by omega) (by omega)) ⟨by decide, nm_r (e' := nI (a / 3)) (pk_div (d := 3) (by omega) (by omega) (by omega)) (nm_r (nI_1 i) (ih (i + 1) (a / 3) (by omega) (by omega) ?_))⟩
    rw [Nat.div_div_eq_div_mul, ← Nat.pow_succ']
    exact h
theorem tv_dgp {a : Nat} : ∀ m, m < 4 → tv_dg a m = a / 3 ^ m % 3 := by
  intro m hm
  match m, hm with
  | 0, _ => show a % 3 = a / 1 % 3; omega
  | 1, _ => rfl
  | 2, _ => rfl
  | 3, _ => rfl
theorem tv_xval {post : Int32 → Prop} {m a : Nat} (hm : m < 4) (ha : a < 81) (h : post (nI (tv_dg a m))) : wpX_valueOf post (nI m) (nI a) := by
  rw [tv_dgp m hm] at h
  exact ⟨m + 1, tv_xvo hm m 0 a (by omega) (by omega) h⟩
theorem tv_xdem {post : SX → Prop} {d c v : Nat} {p0 p1 : Int32} (hd : d < 32) (h0 : p0 = nI c) (hc : c < 128) (h1 : p1 = nI v) (hv : v < 128) (h : post (xl, xc, nI (d + 1), xh, xf, xg, aT, aZ, aK, aC, aW, upd aD d (nI c), upd aV d (nI v), aL, bD, bH, bL, bT, aO, aR)) : wpX_demand post (xl, xc, nI d, xh, xf, xg, aT, aZ, aK, aC, aW, aD, aV, aL, bD, bH, bL, bT, aO, aR) p0 p1 :=
  br_f (nI_ge (b := 32) hd (by decide)) ⟨vp_in_nI hd (by decide), nm_r (tv_up rfl h0 (by omega) hc) ⟨vp_in_nI hd (by decide), nm_r (tv_up rfl h1 (by omega) hv) (nm_r (nI_1 d) h)⟩⟩
theorem tv_xbn4 {post : Int32 → Prop} {l v : Nat} (hl : l < 3) (hv : v < 8) (h : post (nI (tv_bN l v))) : ∀ d i, i + d = 3 → wX_beforeNot_4 post (nI v) (nI l) xc xd xh xf xg aT aZ aK aC aW aD aV aL bD bH bL bT aO aR (d + 1) (nI (tv_sp (fun x => v.testBit (tv_ng l x)) i)) (nI i) := by
  intro d
  induction d with
  | zero =>
    intro i hi
    obtain rfl : i = 3 := by omega
    exact br_t (nI_le (a := 3) (b := 3) (by omega) (by omega)) h
  | succ d ih =>
    intro i hi
    refine br_f (nI_ge (b := 3) (by omega) (by omega)) (tv_xnot hl (by omega) ?_)
    have hb := tv_bit v hv (tv_ng l i) (tv_ng_lt l i)
    have hi' := ih (i + 1) (by omega)
    refine br_c (fun hz => nm_r (nI_1 i) ?_) (fun hz => nm_r (tv_or i (by omega) _ (tv_sp_p _ i)) (nm_r (nI_1 i) ?_))
    · rw [tv_sp_0 (p := fun x => v.testBit (tv_ng l x)) (hb.mp hz)] at hi'
      exact hi'
    · rw [tv_sp_1 (p := fun x => v.testBit (tv_ng l x)) (tv_nf hb hz)] at hi'
      exact hi'
theorem tv_xbn {post : Int32 → Prop} {l v : Nat} {p0 : Int32} (hl : l < 3) (hp : p0 = nI v) (hv : v < 8) (h : post (nI (tv_bN l v))) : wpX_beforeNot post (nI l, xc, xd, xh, xf, xg, aT, aZ, aK, aC, aW, aD, aV, aL, bD, bH, bL, bT, aO, aR) p0 := by
  subst hp
  exact ⟨4, tv_xbn4 hl hv h 3 0 rfl⟩
theorem tv_xpt6 {post : Int32 → Prop} {l k x v : Nat} (hl : l < 3) (hk : k < 8) (hx : x < 3) (hv : v < 8) (h : post (nI (tv_pt l k x v))) : ∀ d i, i + d = 3 → wX_partners_6 post (nI k) (nI x) (nI v) (nI l) xc xd xh xf xg aT aZ aK aC aW aD aV aL bD bH bL bT aO aR (d + 1) (nI (tv_sp (fun y => v.testBit (tv_ap l k x y)) i)) (nI i) := by
  intro d
  induction d with
  | zero =>
    intro i hi
    obtain rfl : i = 3 := by omega
    exact br_t (nI_le (a := 3) (b := 3) (by omega) (by omega)) h
  | succ d ih =>
    intro i hi
    refine br_f (nI_ge (b := 3) (by omega) (by omega)) (tv_xap hl hk hx (by omega) ?_)
    have hb := tv_bit v hv (tv_ap l k x i) (tv_ap_lt hx (by omega))
    have hi' := ih (i + 1) (by omega)
    refine br_c (fun hz => nm_r (nI_1 i) ?_) (fun hz => nm_r (tv_or i (by omega) _ (tv_sp_p _ i)) (nm_r (nI_1 i) ?_))
    · rw [tv_sp_0 (p := fun y => v.testBit (tv_ap l k x y)) (hb.mp hz)] at hi'
      exact hi'
    · rw [tv_sp_1 (p := fun y => v.testBit (tv_ap l k x y)) (tv_nf hb hz)] at hi'
      exact hi'
theorem tv_xpt {post : Int32 → Prop} {l k x v : Nat} {p0 p1 p2 : Int32} (hl : l < 3) (h0 : p0 = nI k) (h1 : p1 = nI x) (h2 : p2 = nI v) (hk : k < 8) (hx : x < 3) (hv : v < 8) (h : post (nI (tv_pt l k x v))) : wpX_partners post (nI l, xc, xd, xh, xf, xg, aT, aZ, aK, aC, aW, aD, aV, aL, bD, bH, bL, bT, aO, aR) p0 p1 p2 := by
  subst h0 h1 h2
  exact ⟨4, tv_xpt6 hl hk hx hv h 3 0 rfl⟩
end
end
section
/-! the queue of demands, goOn -/
def tv_Qu (aD aV : Nat → Int32) : List (Nat × Nat) → Nat → Prop
  | [], _ => True
  | p :: q, h => aD h = nI p.1 ∧ aV h = nI p.2 ∧ tv_Qu aD aV q (h + 1)
def tv_Ag (d : Nat) (aD aV aD' aV' : Nat → Int32) : Prop := ∀ i, i < d → aD' i = aD i ∧ aV' i = aV i
theorem tv_qu_cong {aD aV aD' aV' : Nat → Int32} : ∀ (q : List (Nat × Nat)) (h : Nat), tv_Ag (h + q.length) aD aV aD' aV' → tv_Qu aD aV q h → tv_Qu aD' aV' q h := by
  intro q
  induction q with
  | nil => intro h _ _; trivial
  | cons p q ih =>
    intro h ha hq
    rw [List.length_cons] at ha
    have h1 := ha h (by omega)
    exact ⟨h1.1.trans hq.1, h1.2.trans hq.2.1, ih (h + 1) (fun i hi => ha i (by omega)) hq.2.2⟩
theorem tv_qu_app {aD aV : Nat → Int32} {r : List (Nat × Nat)} : ∀ (q : List (Nat × Nat)) (h : Nat), tv_Qu aD aV q h → tv_Qu aD aV r (h + q.length) → tv_Qu aD aV (q ++ r) h := by
  intro q
  induction q with
  | nil => intro h _ hr; exact hr
  | cons p q ih =>
    intro h hq hr
    rw [List.length_cons] at hr
    exact ⟨hq.1, hq.2.1, ih (h + 1) hq.2.2 (by rw [show h + 1 + q.length = h + (q.length + 1) by omega]; exact hr)⟩
theorem tv_ag_r {d : Nat} {aD aV : Nat → Int32} : tv_Ag d aD aV aD aV := fun _ _ => ⟨rfl, rfl⟩
theorem tv_ag_t {d e : Nat} {aD aV aD' aV' aD'' aV'' : Nat → Int32} (h : tv_Ag d aD aV aD' aV') (h' : tv_Ag e aD' aV' aD'' aV'') (hd : d ≤ e) : tv_Ag d aD aV aD'' aV'' := fun i hi => ⟨(h' i (by omega)).1.trans (h i hi).1, (h' i (by omega)).2.trans (h i hi).2⟩
theorem tv_ag_u {d e : Nat} {aD aV : Nat → Int32} {x y : Int32} (hd : d ≤ e) : tv_Ag d aD aV (upd aD e x) (upd aV e y) := fun i hi => ⟨pk_un (by omega), pk_un (by omega)⟩
theorem tv_qu_push {aD aV : Nat → Int32} {q : List (Nat × Nat)} {h d c v : Nat} (hq : tv_Qu aD aV q h) (hd : d = h + q.length) : tv_Qu (upd aD d (nI c)) (upd aV d (nI v)) (q ++ [(c, v)]) h := by
  refine tv_qu_app q h (tv_qu_cong q h (tv_ag_u (by omega)) hq) ?_
  rw [← hd]
  exact ⟨pk_us, pk_us, trivial⟩
/-- a node of the search: the demands that are left, the letters' values that are left -/
def tv_Nd (t sc n : Nat → Nat) (q : List (Nat × Nat)) (h d : Nat) (lf : Nat → Nat) (aD aV aL : Nat → Int32) : Prop :=
  tv_Qu aD aV q h ∧ d = h + q.length ∧ (∀ p ∈ q, tv_Q t sc n p.1 ∧ p.2 < 8) ∧ h + tv_sw (tv_W t sc) q ≤ 18 ∧ (∀ i, i < 4 → aL i = nI (lf i) ∧ lf i < 8 ∧ lf i ≠ 0)
theorem tv_W1 {t sc n : Nat → Nat} {c : Nat} (h : tv_Q t sc n c) : 1 ≤ tv_W t sc c := by
  have := tv_BW 18 c (by omega) h
  omega
theorem tv_lenW {t sc n : Nat → Nat} : ∀ q : List (Nat × Nat), (∀ p ∈ q, tv_Q t sc n p.1 ∧ p.2 < 8) → q.length ≤ tv_sw (tv_W t sc) q := by
  intro q
  induction q with
  | nil => intro _; exact Nat.le_refl 0
  | cons p q ih =>
    intro h
    have h1 := tv_W1 (h p List.mem_cons_self).1
    have h2 := ih (fun p hp => h p (List.mem_cons_of_mem _ hp))
    show q.length + 1 ≤ tv_W t sc p.1 + tv_sw (tv_W t sc) q
    omega
theorem tv_nd18 {t sc n : Nat → Nat} {q : List (Nat × Nat)} {h d : Nat} {lf : Nat → Nat} {aD aV aL : Nat → Int32} (H : tv_Nd t sc n q h d lf aD aV aL) : d ≤ 18 := by
  have := tv_lenW q H.2.2.1
  have := H.2.1
  have := H.2.2.2.1
  omega
theorem tv_all_app {P : Nat × Nat → Prop} {q r : List (Nat × Nat)} (h : ∀ p ∈ q, P p) (h' : ∀ p ∈ r, P p) : ∀ p ∈ q ++ r, P p := fun p hp => (List.mem_append.mp hp).elim (h p) (h' p)
theorem tv_all_1 {P : Nat × Nat → Prop} {x : Nat × Nat} (h : P x) : ∀ p ∈ [x], P p := fun p hp => by
  rcases List.mem_singleton.mp hp with rfl
  exact h
theorem tv_all_2 {P : Nat × Nat → Prop} {x y : Nat × Nat} (h : P x) (h' : P y) : ∀ p ∈ [x, y], P p := fun p hp => by
  rcases List.mem_cons.mp hp with rfl | hp
  · exact h
  · rcases List.mem_singleton.mp hp with rfl
    exact h'
section
variable {t sc n : Nat → Nat} {q : List (Nat × Nat)} {h d c v : Nat} {lf : Nat → Nat} {aD aV aL : Nat → Int32}
theorem tv_nd_un {x : Nat} (H : tv_Nd t sc n ((c, v) :: q) h d lf aD aV aL) (g : t c = 0) (hx : x < 8) : tv_Nd t sc n (q ++ [(c + 1, x)]) (h + 1) (d + 1) lf (upd aD d (nI (c + 1))) (upd aV d (nI x)) aL := by
  obtain ⟨hq, hd, ha, hw, hL⟩ := H
  have hQ : tv_Q t sc n c := (ha _ List.mem_cons_self).1
  rw [List.length_cons] at hd
  have hw' : h + (tv_W t sc c + tv_sw (tv_W t sc) q) ≤ 18 := hw
  refine ⟨tv_qu_push hq.2.2 (by omega), ?_, tv_all_app (fun p hp => ha p (List.mem_cons_of_mem _ hp)) (tv_all_1 ⟨tv_Q_un hQ g, hx⟩), ?_, hL⟩
  · rw [List.length_append, List.length_singleton]
    omega
  · rw [tv_sw_app]
    show h + 1 + (_ + (tv_W t sc (c + 1) + 0)) ≤ 18
    rw [tv_W_un hQ g] at hw'
    omega
theorem tv_nd_lf {aL' : Nat → Int32} {x : Nat} (H : tv_Nd t sc n ((c, v) :: q) h d lf aD aV aL) (hx : x = lf (t c - 4) &&& v) (h0 : x ≠ 0) (h8 : x < 8) (hA : aL' = upd aL (t c - 4) (nI x)) : tv_Nd t sc n q (h + 1) d (fun j => if j = t c - 4 then lf j &&& v else lf j) aD aV aL' := by
  obtain ⟨hq, hd, ha, hw, hL⟩ := H
  have hQ : tv_Q t sc n c := (ha _ List.mem_cons_self).1
  rw [List.length_cons] at hd
  have hw' : h + (tv_W t sc c + tv_sw (tv_W t sc) q) ≤ 18 := hw
  have h1 := tv_W1 hQ
  refine ⟨hq.2.2, by omega, fun p hp => ha p (List.mem_cons_of_mem _ hp), by omega, fun i hi => ?_⟩
  dsimp only
  subst hA
  by_cases e : i = t c - 4
  · rw [if_pos e, e, ← hx, pk_us]
    exact ⟨rfl, h8, h0⟩
  · rw [if_neg e, pk_un e]
    exact hL i hi
theorem tv_nd_bi {x y : Nat} {aL' : Nat → Int32} (H : tv_Nd t sc n ((c, v) :: q) h d lf aD aV aL) (g : 0 < t c) (g4 : t c < 4) (hx : x < 8) (hy : y < 8) (hL' : ∀ i, i < 4 → aL' i = nI (lf i)) : tv_Nd t sc n (q ++ [(c + 1, x), (sc c, y)]) (h + 1) (d + 2) lf (upd (upd aD d (nI (c + 1))) (d + 1) (nI (sc c))) (upd (upd aV d (nI x)) (d + 1) (nI y)) aL' := by
  obtain ⟨hq, hd, ha, hw, hL⟩ := H
  have hQ : tv_Q t sc n c := (ha _ List.mem_cons_self).1
  rw [List.length_cons] at hd
  have hb := tv_Q_bi hQ g g4
  have hw' : h + (tv_W t sc c + tv_sw (tv_W t sc) q) ≤ 18 := hw
  refine ⟨?_, ?_, tv_all_app (fun p hp => ha p (List.mem_cons_of_mem _ hp)) (tv_all_2 ⟨hb.1, hx⟩ ⟨hb.2.1, hy⟩), ?_, fun i hi => ⟨hL' i hi, (hL i hi).2⟩⟩
  · have e : q ++ [(c + 1, x), (sc c, y)] = (q ++ [(c + 1, x)]) ++ [(sc c, y)] := by rw [List.append_assoc]; rfl
    rw [e]
    exact tv_qu_push (tv_qu_push hq.2.2 (by omega)) (by rw [List.length_append, List.length_singleton]; omega)
  · rw [List.length_append]
    show d + 2 = h + 1 + (q.length + 2)
    omega
  · rw [tv_sw_app]
    show h + 1 + (_ + (tv_W t sc (c + 1) + (tv_W t sc (sc c) + 0))) ≤ 18
    rw [tv_W_bi hQ g g4] at hw'
    omega
end
section
variable {xl xc xf xg : Int32} {aT aZ aK aC aW bD bH bL bT aO aR : Nat → Int32} {t sc n : Nat → Nat} {l : Nat}
theorem tv_xgo {post : Int32 → SX → Prop} (hl : l < 3) (hT : ∀ j, aT j = nI (t j)) (h8 : ∀ j, t j < 8) : ∀ (m : Nat) (q : List (Nat × Nat)) (h d : Nat) (lf : Nat → Nat) (aD aV aL : Nat → Int32), tv_Nd t sc n q h d lf aD aV aL → tv_sw (tv_W t sc) q < m →
    (∀ (xd xh : Int32) (aD' aV' aL' : Nat → Int32), tv_Ag d aD aV aD' aV' → ¬ tv_Sa l t sc lf q → post 0 (nI l, xc, xd, xh, xf, xg, aT, aZ, aK, aC, aW, aD', aV', aL', bD, bH, bL, bT, aO, aR)) →
    (tv_Sa l t sc lf q → ∀ (xd xh : Int32) (aD aV aL : Nat → Int32), post 1 (nI l, xc, xd, xh, xf, xg, aT, aZ, aK, aC, aW, aD, aV, aL, bD, bH, bL, bT, aO, aR)) →
    (∀ (c v : Nat) (q' : List (Nat × Nat)) (h' d' : Nat) (lf' : Nat → Nat) (aD' aV' aL' : Nat → Int32), tv_Ag d aD aV aD' aV' → tv_Nd t sc n ((c, v) :: q') h' d' lf' aD' aV' aL' → d ≤ d' → 0 < t c → t c < 4 → (tv_Sa l t sc lf q ↔ tv_Sa l t sc lf' ((c, v) :: q')) → tv_sw (tv_B t sc) ((c, v) :: q') ≤ tv_sw (tv_B t sc) q → post 2 (nI l, xc, nI d', nI h', xf, xg, aT, aZ, aK, aC, aW, aD', aV', aL', bD, bH, bL, bT, aO, aR)) →
    wX_goOn_0 post m (nI l) xc (nI d) (nI h) xf xg aT aZ aK aC aW aD aV aL bD bH bL bT aO aR := by
  intro m
  induction m with
  | zero => intro q h d lf aD aV aL _ hm; exact absurd hm (Nat.not_lt_zero _)
  | succ m ih =>
    intro q h d lf aD aV aL H hm h0 h1 h2
    have hd18 := tv_nd18 H
    match q, H, hm, h0, h1, h2 with
    | [], H, hm, h0, h1, h2 =>
      have hd := H.2.1
      exact br_t (nI_le (by rw [hd]; exact Nat.le_refl _) (by rw [List.length_nil] at hd; omega)) (h1 (tv_sa_nil (fun i hi => (H.2.2.2.2 i hi).2)) _ _ _ _ _)
    | (c, v) :: q, H, hm, h0, h1, h2 =>
      have H' := H
      obtain ⟨hq, hd, ha, hw, hL⟩ := H'
      have hQ : tv_Q t sc n c := (ha _ List.mem_cons_self).1
      have hv : v < 8 := (ha _ List.mem_cons_self).2
      have hc := tv_Q_lt hQ
      have hw' : h + (tv_W t sc c + tv_sw (tv_W t sc) q) ≤ 18 := hw
      have hW := tv_W1 hQ
      have hm' : tv_W t sc c + tv_sw (tv_W t sc) q < m + 1 := hm
      rw [List.length_cons] at hd
      have hh : vp_in (nI h) 32 := vp_in_nI (by omega) (by omega)
      have hv' : aV (nI h).toNatClampNeg = nI v := tv_rd rfl (by omega) hq.2.1
      refine br_f (nI_ge (by omega) (by omega)) ⟨hh, nm_r (e' := nI c) (tv_rd rfl (by omega) hq.1) ⟨vp_in_nI hc (by omega), nm_r (e' := nI (t c)) (tv_rd rfl (by omega) (hT c)) ?_⟩⟩
      have ht := h8 c
      refine pk_lt (t c) 4 (fun g => pk_eq (t c) 0 (fun g0 => ⟨hh, tv_xbn hl hv' hv ?_⟩) (fun g0 => ?_)) (fun g => ?_)
      · have hb8 : tv_bN l v < 8 := tv_sp_lt _
        refine pk_eq (tv_bN l v) 0 (fun z => ?_) (fun z => ?_)
        · refine h0 _ _ _ _ _ tv_ag_r (fun s => ?_)
          rw [tv_sa_un hQ g0, z] at s
          exact tv_sa_z (c := c + 1) (List.mem_append.mpr (Or.inr List.mem_cons_self)) s
        · refine tv_xdem (d := d) (c := c + 1) (v := tv_bN l v) (by omega) (nI_1 c) (by omega) rfl (by omega) ?_
          refine nm_r (nI_1 h) (ih (q ++ [(c + 1, tv_bN l v)]) (h + 1) (d + 1) lf _ _ aL (tv_nd_un H g0 hb8) ?_ (fun xd xh aD' aV' aL' ag ns => h0 xd xh aD' aV' aL' (tv_ag_t (tv_ag_u (Nat.le_refl d)) ag (by omega)) (fun s => ns ((tv_sa_un hQ g0).mp s))) (fun s => h1 ((tv_sa_un hQ g0).mpr s)) (fun c' v' q' h' d' lf' aD' aV' aL' ag nd hd' g1 g2 e b => h2 c' v' q' h' d' lf' aD' aV' aL' (tv_ag_t (tv_ag_u (Nat.le_refl d)) ag (by omega)) nd (by omega) g1 g2 ((tv_sa_un hQ g0).trans e) (Nat.le_trans b ?_)))
          · rw [tv_sw_app]
            show _ + (tv_W t sc (c + 1) + 0) < m
            rw [tv_W_un hQ g0] at hm'
            omega
          · rw [tv_sw_app]
            show _ + (tv_B t sc (c + 1) + 0) ≤ tv_B t sc c + tv_sw (tv_B t sc) q
            rw [tv_B_un hQ g0]
            omega
      · exact h2 c v q h d lf aD aV aL tv_ag_r H (Nat.le_refl d) (by omega) g Iff.rfl (Nat.le_refl _)
      · have hi : t c - 4 < 4 := by omega
        have hLi := hL (t c - 4) hi
        have hin : vp_in (nI (t c - 4)) 4 := vp_in_nI hi (by omega)
        have hA := tv_and (lf (t c - 4)) hLi.2.1 v hv
        have hrd : aL (nI (t c - 4)).toNatClampNeg = nI (lf (t c - 4)) := tv_rd rfl (by omega) hLi.1
        refine nm_r (e' := nI (t c - 4)) (pk_sub (b := 4) g) ⟨hin, hh, hin, nm_r (e' := upd aL (t c - 4) (nI (lf (t c - 4) &&& v))) (tv_up rfl (by rw [hrd, hv']; exact hA.1) (by omega) (by omega)) ⟨hin, ?_⟩⟩
        refine pk_eq (lf (t c - 4) &&& v) 0 (fun z => ?_) (fun z => ?_) (tv_rd rfl (by omega) pk_us) rfl
        · refine h0 _ _ _ _ _ tv_ag_r (fun s => ?_)
          rw [tv_sa_lf g ht] at s
          exact tv_sa_0 hi (by rw [if_pos rfl, z]) s
        · refine nm_r (nI_1 h) (ih q (h + 1) d _ aD aV _ (tv_nd_lf H rfl z hA.2 rfl) (by omega) (fun xd xh aD' aV' aL' ag ns => h0 xd xh aD' aV' aL' ag (fun s => ns ((tv_sa_lf g ht).mp s))) (fun s => h1 ((tv_sa_lf g ht).mpr s)) (fun c' v' q' h' d' lf' aD' aV' aL' ag nd hd' g1 g2 e b => h2 c' v' q' h' d' lf' aD' aV' aL' ag nd hd' g1 g2 ((tv_sa_lf g ht).trans e) (Nat.le_trans b ?_)))
          show _ ≤ tv_B t sc c + tv_sw (tv_B t sc) q
          omega
end
end
section
/-! open, nextTurn -/
section
variable {xl xc xd xh xf xg : Int32} {aT aZ aK aC aW aD aV aL bD bH bL bT aO aR : Nat → Int32} {l : Nat} {t sc : Nat → Nat}
theorem tv_xop31 {post : SX → Prop} {w : Nat} (hw : w < 12) {lf : Nat → Nat} (hL : ∀ i, i < 4 → aL i = nI (lf i) ∧ lf i < 8)
    (h : ∀ bL' : Nat → Int32, (∀ i, i < 4 → bL' (4 * w + i) = nI (lf i)) → (∀ i, i < 4 * w → bL' i = bL i) → post (xl, xc, xd, xh, xf, xg, aT, aZ, aK, aC, aW, aD, aV, aL, bD, bH, bL', bT, aO, aR)) :
    ∀ (d i : Nat) (bL' : Nat → Int32), i + d = 4 → (∀ j, j < i → bL' (4 * w + j) = nI (lf j)) → (∀ j, j < 4 * w → bL' j = bL j) → wX_open_31 post (nI w) xl xc xd xh xf xg (d + 1) (nI i) aT aZ aK aC aW aD aV aL bD bH bL' bT aO aR := by
  intro d
  induction d with
  | zero =>
    intro i bL' hi h1 h2
    obtain rfl : i = 4 := by omega
    exact br_t (nI_le (a := 4) (b := 4) (by omega) (by omega)) (h bL' h1 h2)
  | succ d ih =>
    intro i bL' hi h1 h2
    have hLi := hL i (by omega)
    have hin : vp_in (nI i) 4 := vp_in_nI (by omega) (by omega)
    have he : nI w * 4 + nI i = nI (4 * w + i) := by
      rw [show nI w * 4 = nI (w * 4) from pk_mul w 4, nI_add, Nat.mul_comm]
    have hin2 : vp_in (nI w * 4 + nI i) 48 := by rw [he]; exact vp_in_nI (by omega) (by omega)
    refine br_f (nI_ge (b := 4) (by omega) (by omega)) ⟨hin, hin2, nm_r (e' := upd bL' (4 * w + i) (nI (lf i))) (tv_up' he (tv_rd rfl (by omega) hLi.1) (by omega) (by omega)) (nm_r (nI_1 i) (ih (i + 1) _ (by omega) (fun j hj => ?_) (fun j hj => ?_)))⟩
    · by_cases e : j = i
      · rw [e, pk_us]
      · rw [pk_un (by omega)]
        exact h1 j (by omega)
    · rw [pk_un (by omega)]
      exact h2 j hj
theorem tv_xop {post : SX → Prop} {w d h : Nat} (hw : w < 12) (hd : d < 128) (hh : h < 128) {lf : Nat → Nat} (hL : ∀ i, i < 4 → aL i = nI (lf i) ∧ lf i < 8)
    (H : ∀ bL' : Nat → Int32, (∀ i, i < 4 → bL' (4 * w + i) = nI (lf i)) → (∀ i, i < 4 * w → bL' i = bL i) → post (xl, xc, nI d, nI h, xf, xg, aT, aZ, aK, aC, aW, aD, aV, aL, upd bD w (nI d), upd bH w (nI h), bL', upd bT w (-1), aO, aR)) :
    wpX_open post (xl, xc, nI d, nI h, xf, xg, aT, aZ, aK, aC, aW, aD, aV, aL, bD, bH, bL, bT, aO, aR) (nI w) := by
  have hin : vp_in (nI w) 12 := vp_in_nI hw (by omega)
  have e3 : upd bT (nI w).toNatClampNeg (vp_nar .byte (-1)) = upd bT w (-1) := by rw [nI_clamp (by omega), tv_bm1]
  exact ⟨hin, nm_r (tv_up rfl rfl (by omega) hd) ⟨hin, nm_r (tv_up rfl rfl (by omega) hh) ⟨hin, nm_r e3 ⟨5, tv_xop31 hw hL H 4 0 bL (by omega) (fun j hj => absurd hj (Nat.not_lt_zero j)) (fun j _ => rfl)⟩⟩⟩⟩
theorem tv_xnt68 {post : Int32 → SX → Prop} {w d h c v : Nat} (hl : l < 3) (hw : w < 12) (hd : d ≤ 18) (hh : h < 18) (hc : c < 18) (hs : sc c < 18) (hv : v < 8) (ht : t c < 8) (eV : aV h = nI v) (eT : aT c = nI (t c)) (eK : aK c = nI (sc c)) :
    ∀ (e x : Nat), x + e = 3 →
    ((∀ j, x ≤ j → j < 3 → tv_pt l (t c) j v = 0) → post 0 (nI l, xc, nI d, nI h, xf, xg, aT, aZ, aK, aC, aW, aD, aV, aL, bD, bH, bL, bT, aO, aR)) →
    (∀ y, x ≤ y → y < 3 → tv_pt l (t c) y v ≠ 0 → (∀ j, x ≤ j → j < y → tv_pt l (t c) j v = 0) → post 1 (nI l, xc, nI (d + 2), nI (h + 1), xf, xg, aT, aZ, aK, aC, aW, upd (upd aD d (nI (c + 1))) (d + 1) (nI (sc c)), upd (upd aV d (nI (2 ^ y))) (d + 1) (nI (tv_pt l (t c) y v)), aL, bD, bH, bL, upd bT w (nI y), aO, aR)) →
    wX_nextTurn_68 post (nI w) (nI c) (nI l) xc (nI d) (nI h) xf xg aT aZ aK aC aW aD aV aL bD bH bL bT aO aR (e + 1) (nI x) := by
  intro e
  induction e with
  | zero =>
    intro x hx h0 _
    obtain rfl : x = 3 := by omega
    exact br_t (nI_le (a := 3) (b := 3) (by omega) (by omega)) (h0 (fun j h1 h2 => by omega))
  | succ e ih =>
    intro x hx h0 h1
    have hin : vp_in (nI c) 18 := vp_in_nI hc (by omega)
    have hp8 : tv_pt l (t c) x v < 8 := tv_sp_lt _
    have h28 := tv_p8 x (by omega)
    refine br_f (nI_ge (b := 3) (by omega) (by omega)) ⟨hin, vp_in_nI (by omega) (by omega), tv_xpt hl (tv_rd rfl (by omega) eT) rfl (tv_rd rfl (by omega) eV) ht (by omega) hv ?_⟩
    refine pk_eq (tv_pt l (t c) x v) 0 (fun z => nm_r (nI_1 x) ?_) (fun z => ⟨vp_in_nI hw (by omega), nm_r (e' := upd bT w (nI x)) (tv_up rfl rfl (by omega) (by omega)) ?_⟩)
    · refine ih (x + 1) (by omega) (fun H => h0 (fun j hj hj3 => ?_)) (fun y hy hy3 hz H => h1 y (by omega) hy3 hz (fun j hj hjy => ?_))
      · by_cases ej : j = x
        · rw [ej]; exact z
        · exact H j (by omega) hj3
      · by_cases ej : j = x
        · rw [ej]; exact z
        · exact H j (by omega) hjy
    · refine tv_xdem (d := d) (c := c + 1) (v := 2 ^ x) (by omega) (nI_1 c) (by omega) (tv_sh x (by omega)) (by omega) ⟨hin, ?_⟩
      refine tv_xdem (d := d + 1) (c := sc c) (v := tv_pt l (t c) x v) (by omega) (tv_rd rfl (by omega) eK) (by omega) rfl (by omega) (nm_r (nI_1 h) ?_)
      exact h1 x (Nat.le_refl x) (by omega) z (fun j h1 h2 => by omega)
theorem tv_xnt22 {post : Int32 → SX → Prop} {w : Nat} (hw : w < 12) {lf : Nat → Nat} {x c : Nat} {h : Nat} (hh : h < 18) (eD : aD h = nI c) (eT : bT w + 1 = nI x) (hL : ∀ i, i < 4 → bL (4 * w + i) = nI (lf i) ∧ lf i < 8)
    (H : ∀ aL' : Nat → Int32, (∀ i, i < 4 → aL' i = nI (lf i)) → ∃ n68, wX_nextTurn_68 post (nI w) (nI c) xl xc xd (nI h) xf xg aT aZ aK aC aW aD aV aL' bD bH bL bT aO aR n68 (nI x)) :
    ∀ (d i : Nat) (aL' : Nat → Int32), i + d = 4 → (∀ j, j < i → aL' j = nI (lf j)) → wX_nextTurn_22 post (nI w) xl xc xd (nI h) xf xg (d + 1) (nI i) aT aZ aK aC aW aD aV aL' bD bH bL bT aO aR := by
  intro d
  induction d with
  | zero =>
    intro i aL' hi h1
    obtain rfl : i = 4 := by omega
    exact br_t (nI_le (a := 4) (b := 4) (by omega) (by omega)) ⟨vp_in_nI (by omega) (by omega), nm_r (e' := nI c) (tv_rd rfl (by omega) eD) ⟨vp_in_nI hw (by omega), nm_r (e' := nI x) (by rw [nI_clamp (by omega)]; exact eT) (H aL' h1)⟩⟩
  | succ d ih =>
    intro i aL' hi h1
    have hLi := hL i (by omega)
    have hin : vp_in (nI i) 4 := vp_in_nI (by omega) (by omega)
    have he : nI w * 4 + nI i = nI (4 * w + i) := by
      rw [show nI w * 4 = nI (w * 4) from pk_mul w 4, nI_add, Nat.mul_comm]
    have hin2 : vp_in (nI w * 4 + nI i) 48 := by rw [he]; exact vp_in_nI (by omega) (by omega)
    refine br_f (nI_ge (b := 4) (by omega) (by omega)) ⟨hin2, hin, nm_r (e' := upd aL' i (nI (lf i))) (tv_up' rfl (tv_rd he (by omega) hLi.1) (by omega) (by omega)) (nm_r (nI_1 i) (ih (i + 1) _ (by omega) (fun j hj => ?_)))⟩
    by_cases e : j = i
    · rw [e, pk_us]
    · rw [pk_un e]
      exact h1 j (by omega)
theorem tv_xnt {post : Int32 → SX → Prop} {w d h c v x : Nat} {lf : Nat → Nat} (hl : l < 3) (hw : w < 12) (hd : d ≤ 18) (hh : h < 18) (hc : c < 18) (hs : sc c < 18) (hv : v < 8) (ht : t c < 8) (eD : aD h = nI c) (eV : aV h = nI v) (eT : aT c = nI (t c)) (eK : aK c = nI (sc c)) (hx : x ≤ 3) (ebD : bD w = nI d) (ebH : bH w = nI h) (ebT : bT w + 1 = nI x) (hL : ∀ i, i < 4 → bL (4 * w + i) = nI (lf i) ∧ lf i < 8)
    (h0 : ∀ aL : Nat → Int32, (∀ j, x ≤ j → j < 3 → tv_pt l (t c) j v = 0) → post 0 (nI l, xc, nI d, nI h, xf, xg, aT, aZ, aK, aC, aW, aD, aV, aL, bD, bH, bL, bT, aO, aR))
    (h1 : ∀ (aL : Nat → Int32) (y : Nat), (∀ i, i < 4 → aL i = nI (lf i)) → x ≤ y → y < 3 → tv_pt l (t c) y v ≠ 0 → (∀ j, x ≤ j → j < y → tv_pt l (t c) j v = 0) → post 1 (nI l, xc, nI (d + 2), nI (h + 1), xf, xg, aT, aZ, aK, aC, aW, upd (upd aD d (nI (c + 1))) (d + 1) (nI (sc c)), upd (upd aV d (nI (2 ^ y))) (d + 1) (nI (tv_pt l (t c) y v)), aL, bD, bH, bL, upd bT w (nI y), aO, aR)) :
    wpX_nextTurn post (nI l, xc, xd, xh, xf, xg, aT, aZ, aK, aC, aW, aD, aV, aL, bD, bH, bL, bT, aO, aR) (nI w) := by
  have hin : vp_in (nI w) 12 := vp_in_nI hw (by omega)
  exact ⟨hin, nm_r (e' := nI d) (tv_rd rfl (by omega) ebD) ⟨hin, nm_r (e' := nI h) (tv_rd rfl (by omega) ebH) ⟨5, tv_xnt22 hw hh eD ebT hL (fun aL' hA => ⟨3 - x + 1, tv_xnt68 hl hw hd hh hc hs hv ht eV eT eK (3 - x) x (by omega) (h0 aL') (fun y => h1 aL' y hA)⟩) 4 0 aL (by omega) (fun j hj => absurd hj (Nat.not_lt_zero j))⟩⟩⟩
end
end
section
/-! the search -/
def tv_Pr (w d : Nat) (aD aV bD bH bL bT aD' aV' bD' bH' bL' bT' : Nat → Int32) : Prop :=
  tv_Ag d aD aV aD' aV' ∧ (∀ i, i < w → bD' i = bD i ∧ bH' i = bH i ∧ bT' i = bT i) ∧ (∀ i, i < 4 * w → bL' i = bL i)
theorem tv_pr_t {w d w' d' : Nat} {aD aV bD bH bL bT aD' aV' bD' bH' bL' bT' aD'' aV'' bD'' bH'' bL'' bT'' : Nat → Int32} (h : tv_Pr w d aD aV bD bH bL bT aD' aV' bD' bH' bL' bT') (h' : tv_Pr w' d' aD' aV' bD' bH' bL' bT' aD'' aV'' bD'' bH'' bL'' bT'') (hw : w ≤ w') (hd : d ≤ d') : tv_Pr w d aD aV bD bH bL bT aD'' aV'' bD'' bH'' bL'' bT'' := by
  refine ⟨tv_ag_t h.1 h'.1 hd, fun i hi => ?_, fun i hi => (h'.2.2 i (by omega)).trans (h.2.2 i hi)⟩
  have a := h.2.1 i hi
  have b := h'.2.1 i (by omega)
  exact ⟨b.1.trans a.1, b.2.1.trans a.2.1, b.2.2.trans a.2.2⟩
/-- what is asked when a node at level w has been left in round r -/
def tv_FL (post : Int32 → SX → Prop) (w r : Nat) (xl xc xd xh xf xg : Int32) (aT aZ aK aC aW aD aV aL bD bH bL bT aO aR : Nat → Int32) : Prop :=
  ∀ m k, m + r + 1 = 32769 → w + 1 < k → wX_meets_110 post (wX_meets_81 post m) (nI r) k (nI w) 0 xl xc xd xh xf xg aT aZ aK aC aW aD aV aL bD bH bL bT aO aR
def tv_G : Nat → Nat
  | 0 => 1
  | b + 1 => 1 + 3 * tv_G b
theorem tv_G1 : ∀ b, 1 ≤ tv_G b := by
  intro b
  match b with
  | 0 => exact Nat.le_refl 1
  | b + 1 =>
    show 1 ≤ 1 + 3 * tv_G b
    omega
theorem tv_nd_cong {t sc n : Nat → Nat} {q : List (Nat × Nat)} {h d : Nat} {lf : Nat → Nat} {aD aV aL aD' aV' aL' : Nat → Int32} (H : tv_Nd t sc n q h d lf aD aV aL) (ag : tv_Ag d aD aV aD' aV') (hL : ∀ i, i < 4 → aL' i = nI (lf i)) : tv_Nd t sc n q h d lf aD' aV' aL' := by
  obtain ⟨hq, hd, ha, hw, hl⟩ := H
  exact ⟨tv_qu_cong q h (by rw [← hd]; exact ag) hq, hd, ha, hw, fun i hi => ⟨hL i hi, (hl i hi).2⟩⟩
section
variable {xc xf xg : Int32} {aT aZ aK aC aW aO aR : Nat → Int32} {t sc n : Nat → Nat} {l : Nat}
/-- the law of a node with at most b tokens of two parts in its demands -/
def tv_NL (post : Int32 → SX → Prop) (xc xf xg : Int32) (aT aZ aK aC aW aO aR : Nat → Int32) (t sc n : Nat → Nat) (l b : Nat) : Prop :=
  ∀ (q : List (Nat × Nat)) (h d : Nat) (lf : Nat → Nat) (w r : Nat) (aD aV aL bD bH bL bT : Nat → Int32), tv_Nd t sc n q h d lf aD aV aL → tv_sw (tv_B t sc) q ≤ b → w + b ≤ 8 → r + tv_G b ≤ 32768 →
  (tv_Sa l t sc lf q → ∀ (xd xh : Int32) (aD aV aL bD bH bL bT : Nat → Int32), post 1 (nI l, xc, xd, xh, xf, xg, aT, aZ, aK, aC, aW, aD, aV, aL, bD, bH, bL, bT, aO, aR)) →
  (¬ tv_Sa l t sc lf q → ∀ (r' : Nat) (xd xh : Int32) (aD' aV' aL' bD' bH' bL' bT' : Nat → Int32), r' < r + tv_G b → tv_Pr w d aD aV bD bH bL bT aD' aV' bD' bH' bL' bT' → tv_FL post w r' (nI l) xc xd xh xf xg aT aZ aK aC aW aD' aV' aL' bD' bH' bL' bT' aO aR) →
  ∀ (m : Nat) (post' : Int32 → SX → Prop), m + r = 32769 → (∀ (x xd xh : Int32) (aD aV aL bD bH bL bT : Nat → Int32), wX_meets_81 post m (nI w) x (nI r) (nI l) xc xd xh xf xg aT aZ aK aC aW aD aV aL bD bH bL bT aO aR → post' x (nI l, xc, xd, xh, xf, xg, aT, aZ, aK, aC, aW, aD, aV, aL, bD, bH, bL, bT, aO, aR)) →
  wpX_goOn post' (nI l, xc, nI d, nI h, xf, xg, aT, aZ, aK, aC, aW, aD, aV, aL, bD, bH, bL, bT, aO, aR)
theorem tv_turn {post : Int32 → SX → Prop} (hl : l < 3) (hT : ∀ j, aT j = nI (t j)) (h8 : ∀ j, t j < 8) (hK : ∀ c, tv_Q t sc n c → 0 < t c → t c < 4 → aK c = nI (sc c)) {b : Nat} (IH : tv_NL post xc xf xg aT aZ aK aC aW aO aR t sc n l b)
    {c v : Nat} {q : List (Nat × Nat)} {h d : Nat} {lf : Nat → Nat} {w r0 : Nat} {oD oV oL pD pH pL pT : Nat → Int32} (H : tv_Nd t sc n ((c, v) :: q) h d lf oD oV oL) (g : 0 < t c) (g4 : t c < 4) (hB : tv_sw (tv_B t sc) ((c, v) :: q) ≤ b + 1) (hw : w + (b + 1) ≤ 8) (hr0 : r0 + tv_G (b + 1) ≤ 32768) :
    ∀ (e x r : Nat) (xd xh : Int32) (aD aV aL bD bH bL bT : Nat → Int32), x ≤ 3 → 3 - x < e → r ≤ r0 + x * tv_G b → tv_Pr w d oD oV pD pH pL pT aD aV bD bH bL bT → bD w = nI d → bH w = nI h → bT w + 1 = nI x → (∀ i, i < 4 → bL (4 * w + i) = nI (lf i)) →
    ((∃ y, x ≤ y ∧ y < 3 ∧ tv_Sa l t sc lf (q ++ [(c + 1, 2 ^ y), (sc c, tv_pt l (t c) y v)])) → ∀ (xd xh : Int32) (aD aV aL bD bH bL bT : Nat → Int32), post 1 (nI l, xc, xd, xh, xf, xg, aT, aZ, aK, aC, aW, aD, aV, aL, bD, bH, bL, bT, aO, aR)) →
    ((¬ ∃ y, x ≤ y ∧ y < 3 ∧ tv_Sa l t sc lf (q ++ [(c + 1, 2 ^ y), (sc c, tv_pt l (t c) y v)])) → ∀ (r' : Nat) (xd xh : Int32) (aD' aV' aL' bD' bH' bL' bT' : Nat → Int32), r' < r0 + tv_G (b + 1) → tv_Pr w d oD oV pD pH pL pT aD' aV' bD' bH' bL' bT' → tv_FL post w r' (nI l) xc xd xh xf xg aT aZ aK aC aW aD' aV' aL' bD' bH' bL' bT' aO aR) →
    tv_FL post (w + 1) r (nI l) xc xd xh xf xg aT aZ aK aC aW aD aV aL bD bH bL bT aO aR := by
  intro e
  induction e with
  | zero => intro x r xd xh aD aV aL bD bH bL bT _ h3; exact absurd h3 (Nat.not_lt_zero _)
  | succ e ih =>
    intro x r xd xh aD aV aL bD bH bL bT hx h3 hr pr ebD ebH ebT ebL hS hN m k hm hk
    have hG : tv_G (b + 1) = 1 + 3 * tv_G b := rfl
    have hx3 : x * tv_G b ≤ 3 * tv_G b := Nat.mul_le_mul_right _ hx
    obtain ⟨k, rfl⟩ : ∃ k', k = k' + 2 := ⟨k - 2, by omega⟩
    have hd18 := tv_nd18 H
    have hQ : tv_Q t sc n c := (H.2.2.1 _ List.mem_cons_self).1
    have hv : v < 8 := (H.2.2.1 _ List.mem_cons_self).2
    have hb := tv_Q_bi hQ g g4
    have hhd : h < d := by
      have := H.2.1
      rw [List.length_cons] at this
      omega
    have hL8 : ∀ i, i < 4 → bL (4 * w + i) = nI (lf i) ∧ lf i < 8 := fun i hi => ⟨ebL i hi, (H.2.2.2.2 i hi).2.1⟩
    have Hq := H.1
    have a1 := pr.1 h hhd
    refine br_f (nI_nle (by omega) (by omega)) (br_t rfl ?_)
    rw [nI_pred w]
    refine tv_xnt (c := c) (v := v) (x := x) (d := d) (h := h) (lf := lf) (t := t) (sc := sc) hl (by omega) hd18 (by omega) (tv_Q_lt hQ) (tv_Q_lt hb.2.1) hv (h8 c) (a1.1.trans Hq.1) (a1.2.trans Hq.2.1) (hT c) (hK c hQ g g4) hx ebD ebH ebT hL8 (fun aL' hz => ?_) (fun aL' y hA hxy hy3 hnz hz => ?_)
    · refine br_t rfl (nm_r (pk_m1 w) (hN ?_ r _ _ _ _ _ _ _ _ _ (by omega) pr m (k + 1) hm (by omega)))
      rintro ⟨y, hy, hy3, s⟩
      rw [hz y hy hy3] at s
      exact tv_sa_z (c := sc c) (List.mem_append.mpr (Or.inr (List.mem_cons_of_mem _ List.mem_cons_self))) s
    · have hxy' : x * tv_G b ≤ y * tv_G b := Nat.mul_le_mul_right _ hxy
      have hys : (y + 1) * tv_G b = y * tv_G b + tv_G b := Nat.succ_mul y _
      have hy4 : (y + 1) * tv_G b ≤ 3 * tv_G b := Nat.mul_le_mul_right _ (by omega)
      have hcB : tv_sw (tv_B t sc) (q ++ [(c + 1, 2 ^ y), (sc c, tv_pt l (t c) y v)]) ≤ b := by
        rw [tv_sw_app]
        show _ + (tv_B t sc (c + 1) + (tv_B t sc (sc c) + 0)) ≤ b
        have hB' : tv_B t sc c + tv_sw (tv_B t sc) q ≤ b + 1 := hB
        rw [tv_B_bi hQ g g4] at hB'
        omega
      have prc : tv_Pr w d oD oV pD pH pL pT (upd (upd aD d (nI (c + 1))) (d + 1) (nI (sc c))) (upd (upd aV d (nI (2 ^ y))) (d + 1) (nI (tv_pt l (t c) y v))) bD bH bL (upd bT w (nI y)) := by
        refine ⟨tv_ag_t pr.1 (tv_ag_t (tv_ag_u (Nat.le_refl d)) (tv_ag_u (Nat.le_succ d)) (Nat.le_refl d)) (Nat.le_refl d), fun i hi => ?_, pr.2.2⟩
        have p2 := pr.2.1 i hi
        exact ⟨p2.1, p2.2.1, (pk_un (by omega)).trans p2.2.2⟩
      refine br_f (by decide) (br_f (nI_nle (by omega) (by omega)) (br_f (by decide) (br_f (by decide) ?_)))
      refine IH (q ++ [(c + 1, 2 ^ y), (sc c, tv_pt l (t c) y v)]) (h + 1) (d + 2) lf (w + 1) (r + 1) _ _ _ _ _ _ _ (tv_nd_bi (tv_nd_cong H pr.1 hA) g g4 (tv_p8 y hy3) (tv_sp_lt _) hA) hcB (by omega) (by omega) (fun s => hS ⟨y, hxy, hy3, s⟩) ?_ m _ (by omega) (fun x' xd xh aD aV aL bD bH bL bT hJ => nm_r (nI_1 r) hJ)
      intro ns r' xd' xh' aD' aV' aL' bD' bH' bL' bT' hr' pr'
      have pw := pr'.2.1 w (by omega)
      refine ih (y + 1) r' xd' xh' aD' aV' aL' bD' bH' bL' bT' (by omega) (by omega) (by omega) (tv_pr_t prc pr' (by omega) (by omega)) (pw.1.trans ebD) (pw.2.1.trans ebH) ?_ (fun i hi => (pr'.2.2 (4 * w + i) (by omega)).trans (ebL i hi)) (fun hs => ?_) (fun hs => ?_)
      · rw [pw.2.2, pk_us]
        exact nI_1 y
      · obtain ⟨z, hz1, hz3, s⟩ := hs
        exact hS ⟨z, by omega, hz3, s⟩
      · refine hN ?_
        rintro ⟨z, hz1, hz3, s⟩
        rcases Nat.lt_trichotomy z y with hzy | hzy | hzy
        · rw [hz z hz1 hzy] at s
          exact tv_sa_z (c := sc c) (List.mem_append.mpr (Or.inr (List.mem_cons_of_mem _ List.mem_cons_self))) s
        · rw [hzy] at s
          exact ns s
        · exact hs ⟨z, by omega, hz3, s⟩
theorem tv_nodeS {post : Int32 → SX → Prop} (hl : l < 3) (hT : ∀ j, aT j = nI (t j)) (h8 : ∀ j, t j < 8) (hK : ∀ c, tv_Q t sc n c → 0 < t c → t c < 4 → aK c = nI (sc c)) {b : Nat} (IH : ∀ b', b = b' + 1 → tv_NL post xc xf xg aT aZ aK aC aW aO aR t sc n l b') : tv_NL post xc xf xg aT aZ aK aC aW aO aR t sc n l b := by
  intro q h d lf w r aD aV aL bD bH bL bT H hB hw hr hS hN m post' hm hJ
  have hG := tv_G1 b
  obtain ⟨m, rfl⟩ : ∃ m', m = m' + 1 := ⟨m - 1, by omega⟩
  have hr' : ¬ (32768 : Int32) ≤ nI r := nI_ge (b := 32768) (by omega) (by decide)
  refine ⟨tv_sw (tv_W t sc) q + 1, tv_xgo hl hT h8 _ q h d lf aD aV aL H (Nat.lt_succ_self _) ?_ ?_ ?_⟩
  · intro xd xh aD' aV' aL' ag ns
    exact hJ _ _ _ _ _ _ _ _ _ _ (br_f hr' (br_f (by decide) (br_f (by decide) ⟨w + 2, hN ns r _ _ _ _ _ _ _ _ _ (by omega) ⟨ag, fun i _ => ⟨rfl, rfl, rfl⟩, fun i _ => rfl⟩ m (w + 2) (by omega) (by omega)⟩)))
  · intro s xd xh aD' aV' aL'
    exact hJ _ _ _ _ _ _ _ _ _ _ (br_f hr' (br_t rfl (hS s _ _ _ _ _ _ _ _ _)))
  · intro c v q' h' d' lf' aD' aV' aL' ag nd hdd g g4 es hb
    have hQ : tv_Q t sc n c := (nd.2.2.1 _ List.mem_cons_self).1
    have hd18 := tv_nd18 nd
    have hh' : h' ≤ d' := by have := nd.2.1; omega
    have hB' : tv_B t sc c + tv_sw (tv_B t sc) q' ≤ tv_sw (tv_B t sc) q := hb
    have hB2 := tv_B_bi hQ g g4
    obtain ⟨b', rfl⟩ : ∃ b', b = b' + 1 := ⟨b - 1, by omega⟩
    refine hJ _ _ _ _ _ _ _ _ _ _ (br_f hr' (br_f (by decide) (br_t rfl (tv_xop (w := w) (d := d') (h := h') (lf := lf') (by omega) (by omega) (by omega) (fun i hi => ⟨(nd.2.2.2.2 i hi).1, (nd.2.2.2.2 i hi).2.1⟩) (fun bL' hb1 hb2 => nm_r (nI_1 w) ⟨w + 3, ?_⟩)))))
    refine tv_turn hl hT h8 hK (IH b' rfl) (r0 := r) nd g g4 (Nat.le_trans hb hB) hw hr 4 0 r _ _ aD' aV' aL' (upd bD w (nI d')) (upd bH w (nI h')) bL' (upd bT w (-1)) (by omega) (by omega) (by omega) ⟨tv_ag_r, fun i hi => ⟨pk_un (by omega), pk_un (by omega), pk_un (by omega)⟩, hb2⟩ pk_us pk_us ?_ hb1 (fun hs => ?_) (fun hs => ?_) m (w + 3) (by omega) (by omega)
    · rw [pk_us]
      decide
    · refine hS (es.mpr ((tv_sa_bi hQ g g4).mpr ?_))
      obtain ⟨y, _, hy, s⟩ := hs
      exact ⟨y, hy, s⟩
    · intro r' xd xh aD2 aV2 aL2 bD2 bH2 bL2 bT2 hr2 pr
      refine hN (fun s => hs ?_) r' _ _ _ _ _ _ _ _ _ hr2 (tv_pr_t (w' := w) (d' := d') ⟨ag, fun i _ => ⟨rfl, rfl, rfl⟩, fun i _ => rfl⟩ pr (Nat.le_refl w) hdd)
      obtain ⟨y, hy, s'⟩ := (tv_sa_bi hQ g g4).mp (es.mp s)
      exact ⟨y, by omega, hy, s'⟩
theorem tv_node {post : Int32 → SX → Prop} (hl : l < 3) (hT : ∀ j, aT j = nI (t j)) (h8 : ∀ j, t j < 8) (hK : ∀ c, tv_Q t sc n c → 0 < t c → t c < 4 → aK c = nI (sc c)) : ∀ b, tv_NL post xc xf xg aT aZ aK aC aW aO aR t sc n l b := by
  intro b
  induction b with
  | zero => exact tv_nodeS hl hT h8 hK (fun b' e => absurd e (by omega))
  | succ b ih => exact tv_nodeS hl hT h8 hK (fun b' e => by
      obtain rfl : b = b' := by omega
      exact ih)
end
end
section
/-! the question at hand: meets, ask, askOne -/
section
variable {xl xc xd xh xf xg : Int32} {aT aZ aK aC aW aD aV aL bD bH bL bT aO aR : Nat → Int32} {t sc n : Nat → Nat} {l : Nat}
theorem tv_x49 {post : Int32 → SX → Prop} {ov : Nat → Nat} (hO : ∀ i, i < 4 → aO i = nI (ov i) ∧ ov i < 8 ∧ ov i ≠ 0)
    (H : ∀ (aL' : Nat → Int32) (post' : Int32 → SX → Prop), (∀ i, i < 4 → aL' i = nI (ov i)) → (∀ (x : Int32) (xl xc xd xh xf xg : Int32) (aT aZ aK aC aW aD aV aL bD bH bL bT aO aR : Nat → Int32), (∃ n81, wX_meets_81 post n81 0 x 0 xl xc xd xh xf xg aT aZ aK aC aW aD aV aL bD bH bL bT aO aR) → post' x (xl, xc, xd, xh, xf, xg, aT, aZ, aK, aC, aW, aD, aV, aL, bD, bH, bL, bT, aO, aR)) → wpX_goOn post' (xl, xc, xd, xh, xf, xg, aT, aZ, aK, aC, aW, aD, aV, aL', bD, bH, bL, bT, aO, aR)) :
    ∀ (d i : Nat) (aL' : Nat → Int32), i + d = 4 → (∀ j, j < i → aL' j = nI (ov j)) → wX_meets_49 post xl xc xd xh xf xg (d + 1) (nI i) aT aZ aK aC aW aD aV aL' bD bH bL bT aO aR := by
  intro d
  induction d with
  | zero =>
    intro i aL' hi h1
    obtain rfl : i = 4 := by omega
    exact br_t (nI_le (a := 4) (b := 4) (by omega) (by omega)) (H aL' _ h1 (fun x xl xc xd xh xf xg aT aZ aK aC aW aD aV aL bD bH bL bT aO aR h => h))
  | succ d ih =>
    intro i aL' hi h1
    have hOi := hO i (by omega)
    have hin : vp_in (nI i) 4 := vp_in_nI (by omega) (by omega)
    refine br_f (nI_ge (b := 4) (by omega) (by omega)) ⟨hin, hin, nm_r (e' := upd aL' i (nI (ov i))) (tv_up' rfl (tv_rd rfl (by omega) hOi.1) (by omega) (by omega)) (nm_r (nI_1 i) (ih (i + 1) _ (by omega) (fun j hj => ?_)))⟩
    by_cases e : j = i
    · rw [e, pk_us]
    · rw [pk_un e]
      exact h1 j (by omega)
theorem tv_xm49 {post : Int32 → SX → Prop} (hl : l < 3) (hT : ∀ j, aT j = nI (t j)) (h8 : ∀ j, t j < 8) (hK : ∀ c, tv_Q t sc n c → 0 < t c → t c < 4 → aK c = nI (sc c)) {ov : Nat → Nat} (hO : ∀ i, i < 4 → aO i = nI (ov i) ∧ ov i < 8 ∧ ov i ≠ 0)
    {q : List (Nat × Nat)} (hq : tv_Qu aD aV q 0) (ha : ∀ p ∈ q, tv_Q t sc n p.1 ∧ p.2 < 8) (hw : tv_sw (tv_W t sc) q ≤ 18) (hb : tv_sw (tv_B t sc) q ≤ 8)
    (hS : tv_Sa l t sc ov q → ∀ (xd xh : Int32) (aD aV aL bD bH bL bT : Nat → Int32), post 1 (nI l, xc, xd, xh, xf, xg, aT, aZ, aK, aC, aW, aD, aV, aL, bD, bH, bL, bT, aO, aR))
    (hN : ¬ tv_Sa l t sc ov q → ∀ (xd xh : Int32) (aD aV aL bD bH bL bT : Nat → Int32), post 0 (nI l, xc, xd, xh, xf, xg, aT, aZ, aK, aC, aW, aD, aV, aL, bD, bH, bL, bT, aO, aR)) :
    wX_meets_49 post (nI l) xc (nI q.length) 0 xf xg 5 0 aT aZ aK aC aW aD aV aL bD bH bL bT aO aR := by
  refine tv_x49 hO (fun aL' post' hL hJ => ?_) 4 0 aL (by omega) (fun j hj => absurd hj (Nat.not_lt_zero j))
  refine tv_node (post := post) hl hT h8 hK 8 q 0 q.length ov 0 0 aD aV aL' bD bH bL bT ⟨hq, (Nat.zero_add _).symm, ha, by omega, fun i hi => ⟨hL i hi, (hO i hi).2⟩⟩ hb (by omega) (by decide) hS ?_ 32769 post' rfl (fun x xd xh aD aV aL bD bH bL bT h => hJ _ _ _ _ _ _ _ _ _ _ _ _ _ _ _ _ _ _ _ _ _ ⟨32769, h⟩)
  intro ns r' xd xh aD' aV' aL' bD' bH' bL' bT' hr' pr m k hm hk
  obtain ⟨k, rfl⟩ : ∃ k', k = k' + 1 := ⟨k - 1, by omega⟩
  exact br_t (by decide) (br_t rfl (hN ns _ _ _ _ _ _ _ _ _))
/-- some assignment within the open values gives both formulas values of the sets -/
def tv_Sq (l : Nat) (t sc : Nat → Nat) (ov : Nat → Nat) (f g : Nat) : Prop :=
  ∃ a, a < 81 ∧ (∀ i, i < 4 → (ov i).testBit (tv_dg a i) = true) ∧ f.testBit (tv_V l t sc a 0) = true ∧ g.testBit (tv_V l t sc a 9) = true
theorem tv_7 : ∀ x, x < 3 → (7 : Nat).testBit x = true := by decide
theorem tv_sq_sa {ov : Nat → Nat} {f g : Nat} {q : List (Nat × Nat)} (h : ∀ a, (∀ p ∈ q, p.2.testBit (tv_V l t sc a p.1) = true) ↔ (f.testBit (tv_V l t sc a 0) = true ∧ g.testBit (tv_V l t sc a 9) = true)) : tv_Sa l t sc ov q ↔ tv_Sq l t sc ov f g := by
  constructor
  · rintro ⟨a, ha, h1, h2⟩
    exact ⟨a, ha, h1, (h a).mp h2⟩
  · rintro ⟨a, ha, h1, h2⟩
    exact ⟨a, ha, h1, (h a).mpr h2⟩
/-- formula f is whole, its second parts are found -/
def tv_Rd (t sc n : Nat → Nat) (f : Nat) : Prop := tv_Fm t sc (9 * f) (n f) ∧ n f ≤ 9
theorem tv_rd_q {f : Nat} (hf : f < 2) (h : tv_Rd t sc n f) : tv_Q t sc n (9 * f) ∧ tv_W t sc (9 * f) ≤ 9 ∧ tv_B t sc (9 * f) ≤ 4 := by
  have hQ := tv_Qroot hf h.1 h.2
  have hW := tv_Wroot hf h.1 h.2
  have := tv_BW 18 _ (by omega) hQ
  have := h.2
  exact ⟨hQ, by omega, by omega⟩
theorem tv_xmeets {post : Int32 → SX → Prop} (hl : l < 3) (hT : ∀ j, aT j = nI (t j)) (h8 : ∀ j, t j < 8) (hK : ∀ c, tv_Q t sc n c → 0 < t c → t c < 4 → aK c = nI (sc c)) {ov : Nat → Nat} (hO : ∀ i, i < 4 → aO i = nI (ov i) ∧ ov i < 8 ∧ ov i ≠ 0)
    {f g : Nat} (hf : f < 8) (hg : g < 8) (hRf : f ≠ 7 → tv_Rd t sc n 0) (hRg : g ≠ 7 → tv_Rd t sc n 1)
    (hS : tv_Sq l t sc ov f g → ∀ (xd xh : Int32) (aD aV aL bD bH bL bT : Nat → Int32), post 1 (nI l, xc, xd, xh, nI f, nI g, aT, aZ, aK, aC, aW, aD, aV, aL, bD, bH, bL, bT, aO, aR))
    (hN : ¬ tv_Sq l t sc ov f g → ∀ (xd xh : Int32) (aD aV aL bD bH bL bT : Nat → Int32), post 0 (nI l, xc, xd, xh, nI f, nI g, aT, aZ, aK, aC, aW, aD, aV, aL, bD, bH, bL, bT, aO, aR)) :
    wpX_meets post (nI l, xc, xd, xh, nI f, nI g, aT, aZ, aK, aC, aW, aD, aV, aL, bD, bH, bL, bT, aO, aR) := by
  refine pk_eq f 7 (fun e => pk_eq g 7 (fun e' => ⟨5, ?_⟩) (fun e' => ?_)) (fun e => ?_)
  · have hi : tv_Sa l t sc ov [] ↔ tv_Sq l t sc ov f g := tv_sq_sa (fun a => ⟨fun _ => ⟨by rw [e]; exact tv_7 _ tv_V_lt, by rw [e']; exact tv_7 _ tv_V_lt⟩, fun _ p hp => nomatch hp⟩)
    exact tv_xm49 (q := []) hl hT h8 hK hO trivial (fun p hp => nomatch hp) (Nat.zero_le _) (Nat.zero_le _) (fun s => hS (hi.mp s)) (fun s => hN (fun z => s (hi.mpr z)))
  · obtain ⟨q1, q2, q3⟩ := tv_rd_q (f := 1) (by omega) (hRg e')
    have hi : tv_Sa l t sc ov [(9, g)] ↔ tv_Sq l t sc ov f g := tv_sq_sa (fun a => ⟨fun h => ⟨by rw [e]; exact tv_7 _ tv_V_lt, h (9, g) List.mem_cons_self⟩, fun h => tv_all_1 h.2⟩)
    refine tv_xdem (d := 0) (c := 9) (v := g) (by omega) rfl (by omega) rfl (by omega) ⟨5, ?_⟩
    exact tv_xm49 (q := [(9, g)]) hl hT h8 hK hO ⟨pk_us, pk_us, trivial⟩ (tv_all_1 ⟨q1, hg⟩) (by show tv_W t sc 9 + 0 ≤ 18; have : tv_W t sc 9 ≤ 9 := q2; omega) (by show tv_B t sc 9 + 0 ≤ 8; have : tv_B t sc 9 ≤ 4 := q3; omega) (fun s => hS (hi.mp s)) (fun s => hN (fun z => s (hi.mpr z)))
  · obtain ⟨q1, q2, q3⟩ := tv_rd_q (f := 0) (by omega) (hRf e)
    refine tv_xdem (d := 0) (c := 0) (v := f) (by omega) rfl (by omega) rfl (by omega) ?_
    refine pk_eq g 7 (fun e' => ⟨5, ?_⟩) (fun e' => ?_)
    · have hi : tv_Sa l t sc ov [(0, f)] ↔ tv_Sq l t sc ov f g := tv_sq_sa (fun a => ⟨fun h => ⟨h (0, f) List.mem_cons_self, by rw [e']; exact tv_7 _ tv_V_lt⟩, fun h => tv_all_1 h.1⟩)
      exact tv_xm49 (q := [(0, f)]) hl hT h8 hK hO ⟨pk_us, pk_us, trivial⟩ (tv_all_1 ⟨q1, hf⟩) (by show tv_W t sc 0 + 0 ≤ 18; have : tv_W t sc 0 ≤ 9 := q2; omega) (by show tv_B t sc 0 + 0 ≤ 8; have : tv_B t sc 0 ≤ 4 := q3; omega) (fun s => hS (hi.mp s)) (fun s => hN (fun z => s (hi.mpr z)))
    · obtain ⟨r1, r2, r3⟩ := tv_rd_q (f := 1) (by omega) (hRg e')
      have hi : tv_Sa l t sc ov [(0, f), (9, g)] ↔ tv_Sq l t sc ov f g := tv_sq_sa (fun a => ⟨fun h => ⟨h (0, f) List.mem_cons_self, h (9, g) (List.mem_cons_of_mem _ List.mem_cons_self)⟩, fun h => tv_all_2 h.1 h.2⟩)
      refine tv_xdem (d := 1) (c := 9) (v := g) (by omega) rfl (by omega) rfl (by omega) ⟨5, ?_⟩
      exact tv_xm49 (q := [(0, f), (9, g)]) hl hT h8 hK hO ⟨(pk_un (by omega)).trans pk_us, (pk_un (by omega)).trans pk_us, pk_us, pk_us, trivial⟩ (tv_all_2 ⟨q1, hf⟩ ⟨r1, hg⟩) (by show tv_W t sc 0 + (tv_W t sc 9 + 0) ≤ 18; have : tv_W t sc 0 ≤ 9 := q2; have : tv_W t sc 9 ≤ 9 := r2; omega) (by show tv_B t sc 0 + (tv_B t sc 9 + 0) ≤ 8; have : tv_B t sc 0 ≤ 4 := q3; have : tv_B t sc 9 ≤ 4 := r3; omega) (fun s => hS (hi.mp s)) (fun s => hN (fun z => s (hi.mpr z)))
theorem tv_xask12 {post : SX → Prop} (H : ∀ aO' : Nat → Int32, (∀ i, i < 4 → aO' i = nI 7) → post (xl, xc, xd, xh, xf, xg, aT, aZ, aK, aC, aW, aD, aV, aL, bD, bH, bL, bT, aO', aR)) :
    ∀ (d i : Nat) (aO' : Nat → Int32), i + d = 4 → (∀ j, j < i → aO' j = nI 7) → wX_ask_12 post xl xc xd xh xf xg (d + 1) (nI i) aT aZ aK aC aW aD aV aL bD bH bL bT aO' aR := by
  intro d
  induction d with
  | zero =>
    intro i aO' hi h1
    obtain rfl : i = 4 := by omega
    exact br_t (nI_le (a := 4) (b := 4) (by omega) (by omega)) (H aO' h1)
  | succ d ih =>
    intro i aO' hi h1
    refine br_f (nI_ge (b := 4) (by omega) (by omega)) ⟨vp_in_nI (by omega) (by omega), nm_r (e' := upd aO' i (nI 7)) (tv_up' (c := 7) rfl rfl (by omega) (by omega)) (nm_r (nI_1 i) (ih (i + 1) _ (by omega) (fun j hj => ?_)))⟩
    by_cases e : j = i
    · rw [e, pk_us]
    · rw [pk_un e]
      exact h1 j (by omega)
theorem tv_xask {post : SX → Prop} {p0 p1 : Int32} (H : ∀ aO' : Nat → Int32, (∀ i, i < 4 → aO' i = nI 7) → post (xl, xc, xd, xh, p0, p1, aT, aZ, aK, aC, aW, aD, aV, aL, bD, bH, bL, bT, aO', aR)) : wpX_ask post (xl, xc, xd, xh, xf, xg, aT, aZ, aK, aC, aW, aD, aV, aL, bD, bH, bL, bT, aO, aR) p0 p1 :=
  ⟨5, tv_xask12 (xf := p0) (xg := p1) H 4 0 aO (by omega) (fun j hj => absurd hj (Nat.not_lt_zero j))⟩
def tv_fa (w v : Nat) : Nat := if w = 0 then v else 7
def tv_ga (w v : Nat) : Nat := if w = 0 then 7 else v
theorem tv_xask1 {post : SX → Prop} {w v : Nat} {p1 : Int32} (hw : w < 2) (hp : p1 = nI v) (H : ∀ aO' : Nat → Int32, (∀ i, i < 4 → aO' i = nI 7) → post (xl, xc, xd, xh, nI (tv_fa w v), nI (tv_ga w v), aT, aZ, aK, aC, aW, aD, aV, aL, bD, bH, bL, bT, aO', aR)) : wpX_askOne post (xl, xc, xd, xh, xf, xg, aT, aZ, aK, aC, aW, aD, aV, aL, bD, bH, bL, bT, aO, aR) (nI w) p1 := by
  subst hp
  refine pk_eq w 0 (fun e => ?_) (fun e => ?_)
  · have e1 : tv_fa w v = v := if_pos e
    have e2 : tv_ga w v = 7 := if_pos e
    rw [e1, e2] at H
    exact br_t (by rw [e]; rfl) (tv_xask (p0 := nI v) (p1 := 7) H)
  · have e1 : tv_fa w v = 7 := if_neg e
    have e2 : tv_ga w v = v := if_neg e
    rw [e1, e2] at H
    exact br_f (nI_ne0 (by omega) (by omega)) (tv_xask (p0 := 7) (p1 := nI v) H)
end
end
section
/-! the least assignment -/
/-- r is the least number below 81 with P, or -1 -/
def tv_An (P : Nat → Prop) (r : Int32) : Prop := (∃ a, a < 81 ∧ P a ∧ (∀ b, b < a → ¬ P b) ∧ r = nI a) ∨ ((∀ a, a < 81 → ¬ P a) ∧ r = -1)
theorem tv_an_u {P : Nat → Prop} {r r' : Int32} (h : tv_An P r) (h' : tv_An P r') : r' = r := by
  rcases h with ⟨a, ha, pa, la, rfl⟩ | ⟨hn, rfl⟩
  · rcases h' with ⟨b, hb, pb, lb, rfl⟩ | ⟨hn, rfl⟩
    · rcases Nat.lt_trichotomy a b with h | h | h
      · exact absurd pa (lb a h)
      · rw [h]
      · exact absurd pb (la b h)
    · exact absurd pa (hn a ha)
  · rcases h' with ⟨b, hb, pb, lb, rfl⟩ | ⟨_, rfl⟩
    · exact absurd pb (hn b hb)
    · rfl
theorem tv_an_c {P P' : Nat → Prop} {r : Int32} (h : ∀ a, a < 81 → (P a ↔ P' a)) (H : tv_An P r) : tv_An P' r := by
  rcases H with ⟨a, ha, pa, la, e⟩ | ⟨hn, e⟩
  · exact Or.inl ⟨a, ha, (h a ha).mp pa, fun b hb p => la b hb ((h b (by omega)).mpr p), e⟩
  · exact Or.inr ⟨fun a ha p => hn a ha ((h a ha).mpr p), e⟩
def tv_set (ov : Nat → Nat) (i x : Nat) : Nat → Nat := fun j => if j = i then x else ov j
def tv_Pq (l : Nat) (t sc : Nat → Nat) (ov : Nat → Nat) (f g a : Nat) : Prop := (∀ i, i < 4 → (ov i).testBit (tv_dg a i) = true) ∧ f.testBit (tv_V l t sc a 0) = true ∧ g.testBit (tv_V l t sc a 9) = true
theorem tv_min (P : Nat → Prop) : ∀ m, (∃ a, a < m ∧ P a) → ∃ a, a < m ∧ P a ∧ ∀ b, b < a → ¬ P b := by
  intro m
  induction m with
  | zero => rintro ⟨a, ha, _⟩; exact absurd ha (Nat.not_lt_zero a)
  | succ m ih =>
    rintro ⟨a, ha, pa⟩
    by_cases h : ∃ a, a < m ∧ P a
    · obtain ⟨b, hb, pb, lb⟩ := ih h
      exact ⟨b, by omega, pb, lb⟩
    · have hm : a = m := by
        by_cases e : a = m
        · exact e
        · exact absurd ⟨a, by omega, pa⟩ h
      subst hm
      exact ⟨a, ha, pa, fun b hb pb => h ⟨b, hb, pb⟩⟩
theorem tv_p2n (x : Nat) : 2 ^ x ≠ 0 := Nat.pos_iff_ne_zero.mp (Nat.two_pow_pos x)
theorem tv_dlt {a b k : Nat} (ha : a < 81) (hb : b < 81) (hk : k < 4) (he : ∀ j, k < j → j < 4 → tv_dg b j = tv_dg a j) (hl : tv_dg b k < tv_dg a k) : b < a := by
  match k, hk with
  | 0, _ =>
    have e1 : b / 3 % 3 = a / 3 % 3 := he 1 (by omega) (by omega)
    have e2 : b / 9 % 3 = a / 9 % 3 := he 2 (by omega) (by omega)
    have e3 : b / 27 % 3 = a / 27 % 3 := he 3 (by omega) (by omega)
    have e0 : b % 3 < a % 3 := hl
    omega
  | 1, _ =>
    have e2 : b / 9 % 3 = a / 9 % 3 := he 2 (by omega) (by omega)
    have e3 : b / 27 % 3 = a / 27 % 3 := he 3 (by omega) (by omega)
    have e1 : b / 3 % 3 < a / 3 % 3 := hl
    omega
  | 2, _ =>
    have e3 : b / 27 % 3 = a / 27 % 3 := he 3 (by omega) (by omega)
    have e2 : b / 9 % 3 < a / 9 % 3 := hl
    omega
  | 3, _ =>
    have e3 : b / 27 % 3 < a / 27 % 3 := hl
    omega
section
variable {xc xf xg : Int32} {aT aZ aK aC aW aR : Nat → Int32} {t sc n : Nat → Nat} {l : Nat}
theorem tv_xlv9 {post : Int32 → SX → Prop} (hl : l < 3) (hT : ∀ j, aT j = nI (t j)) (h8 : ∀ j, t j < 8) (hK : ∀ c, tv_Q t sc n c → 0 < t c → t c < 4 → aK c = nI (sc c)) {ov : Nat → Nat} (hO : ∀ i, i < 4 → ov i < 8 ∧ ov i ≠ 0)
    {f g : Nat} (hf : f < 8) (hg : g < 8) (hRf : f ≠ 7 → tv_Rd t sc n 0) (hRg : g ≠ 7 → tv_Rd t sc n 1) {i x : Nat} (hi : i < 4) (hx : x < 3) (hb : (ov i).testBit x = true) (hs : tv_Sq l t sc (tv_set ov i (2 ^ x)) f g) (hlt : ∀ y, y < x → (ov i).testBit y = true → ¬ tv_Sq l t sc (tv_set ov i (2 ^ y)) f g)
    (H : ∀ (xd xh : Int32) (aD aV aL bD bH bL bT aO : Nat → Int32), (∀ j, j < 4 → aO j = nI (tv_set ov i (2 ^ x) j)) → post (nI x) (nI l, xc, xd, xh, nI f, nI g, aT, aZ, aK, aC, aW, aD, aV, aL, bD, bH, bL, bT, aO, aR)) :
    ∀ (e y : Nat) (xd xh : Int32) (aD aV aL bD bH bL bT aO : Nat → Int32), y + e = x → (∀ j, j < 4 → j ≠ i → aO j = nI (ov j)) → wX_leastValue_9 post (nI i) (nI (ov i)) (e + 1) (nI y) (nI l) xc xd xh (nI f) (nI g) aT aZ aK aC aW aD aV aL bD bH bL bT aO aR := by
  have key : ∀ (y : Nat) (aO : Nat → Int32), y < 3 → (∀ j, j < 4 → j ≠ i → aO j = nI (ov j)) → ∀ j, j < 4 → upd aO i (nI (2 ^ y)) j = nI (tv_set ov i (2 ^ y) j) ∧ tv_set ov i (2 ^ y) j < 8 ∧ tv_set ov i (2 ^ y) j ≠ 0 := by
    intro y aO hy h j hj
    unfold tv_set
    by_cases e : j = i
    · rw [if_pos e, e, pk_us]
      exact ⟨rfl, tv_p8 y hy, tv_p2n y⟩
    · rw [if_neg e, pk_un e]
      exact ⟨h j hj e, hO j hj⟩
  intro e
  induction e with
  | zero =>
    intro y xd xh aD aV aL bD bH bL bT aO hy hA
    obtain rfl : y = x := by omega
    refine br_f (nI_ge (b := 3) (by omega) (by omega)) (br_f (fun z => ?_) ⟨vp_in_nI hi (by omega), nm_r (e' := upd aO i (nI (2 ^ y))) (tv_up rfl (tv_sh y hx) (by omega) (by have := tv_p8 y hx; omega)) ?_⟩)
    · rw [tv_bit _ (hO i hi).1 y hx, hb] at z
      exact absurd z (by decide)
    · exact tv_xmeets hl hT h8 hK (key y aO hx hA) hf hg hRf hRg (fun _ xd xh aD aV aL bD bH bL bT => br_f (by decide) (H _ _ _ _ _ _ _ _ _ _ (fun j hj => (key y aO hx hA j hj).1))) (fun ns => absurd hs ns)
  | succ e ih =>
    intro y xd xh aD aV aL bD bH bL bT aO hy hA
    refine br_f (nI_ge (b := 3) (by omega) (by omega)) (br_c (fun z => nm_r (nI_1 y) (ih (y + 1) _ _ _ _ _ _ _ _ _ _ (by omega) hA)) (fun z => ⟨vp_in_nI hi (by omega), nm_r (e' := upd aO i (nI (2 ^ y))) (tv_up rfl (tv_sh y (by omega)) (by omega) (by have := tv_p8 y (by omega); omega)) ?_⟩))
    have hby : (ov i).testBit y = true := by
      cases e : (ov i).testBit y with
      | true => rfl
      | false => exact absurd ((tv_bit _ (hO i hi).1 y (by omega)).mpr e) z
    refine tv_xmeets hl hT h8 hK (key y aO (by omega) hA) hf hg hRf hRg (fun s => absurd s (hlt y (by omega) hby)) (fun _ xd xh aD aV aL bD bH bL bT => br_t rfl (nm_r (nI_1 y) (ih (y + 1) _ _ _ _ _ _ _ _ _ _ (by omega) (fun j hj e => ?_))))
    rw [pk_un e]
    exact hA j hj e
theorem tv_xlv {post : Int32 → SX → Prop} (hl : l < 3) (hT : ∀ j, aT j = nI (t j)) (h8 : ∀ j, t j < 8) (hK : ∀ c, tv_Q t sc n c → 0 < t c → t c < 4 → aK c = nI (sc c)) {ov : Nat → Nat} {xd xh : Int32} {aD aV aL bD bH bL bT aO : Nat → Int32} (hO : ∀ i, i < 4 → aO i = nI (ov i) ∧ ov i < 8 ∧ ov i ≠ 0)
    {f g : Nat} (hf : f < 8) (hg : g < 8) (hRf : f ≠ 7 → tv_Rd t sc n 0) (hRg : g ≠ 7 → tv_Rd t sc n 1) {i x : Nat} (hi : i < 4) (hx : x < 3) (hb : (ov i).testBit x = true) (hs : tv_Sq l t sc (tv_set ov i (2 ^ x)) f g) (hlt : ∀ y, y < x → (ov i).testBit y = true → ¬ tv_Sq l t sc (tv_set ov i (2 ^ y)) f g)
    (H : ∀ (xd xh : Int32) (aD aV aL bD bH bL bT aO : Nat → Int32), (∀ j, j < 4 → aO j = nI (tv_set ov i (2 ^ x) j)) → post (nI x) (nI l, xc, xd, xh, nI f, nI g, aT, aZ, aK, aC, aW, aD, aV, aL, bD, bH, bL, bT, aO, aR)) :
    wpX_leastValue post (nI l, xc, xd, xh, nI f, nI g, aT, aZ, aK, aC, aW, aD, aV, aL, bD, bH, bL, bT, aO, aR) (nI i) :=
  ⟨vp_in_nI hi (by omega), nm_r (e' := nI (ov i)) (tv_rd rfl (by omega) (hO i hi).1) ⟨x + 1, tv_xlv9 hl hT h8 hK (fun i hi => (hO i hi).2) hf hg hRf hRg hi hx hb hs hlt H x 0 _ _ _ _ _ _ _ _ _ _ (by omega) (fun j hj _ => (hO j hj).1)⟩⟩
/-- the open values when the letters from k on are fixed as in a -/
def tv_ovi (ov : Nat → Nat) (a k : Nat) : Nat → Nat := fun j => if k ≤ j then 2 ^ tv_dg a j else ov j
theorem tv_ovi_s {ov : Nat → Nat} {a k : Nat} (j : Nat) : tv_set (tv_ovi ov a (k + 1)) k (2 ^ tv_dg a k) j = tv_ovi ov a k j := by
  unfold tv_set tv_ovi
  by_cases e : j = k
  · rw [if_pos e, if_pos (by omega), e]
  · rw [if_neg e]
    by_cases h : k ≤ j
    · rw [if_pos (by omega), if_pos h]
    · rw [if_neg (by omega), if_neg h]
theorem tv_xle13 {post : Int32 → SX → Prop} (hl : l < 3) (hT : ∀ j, aT j = nI (t j)) (h8 : ∀ j, t j < 8) (hK : ∀ c, tv_Q t sc n c → 0 < t c → t c < 4 → aK c = nI (sc c)) {ov : Nat → Nat} (hO : ∀ i, i < 4 → ov i < 8 ∧ ov i ≠ 0)
    {f g : Nat} (hf : f < 8) (hg : g < 8) (hRf : f ≠ 7 → tv_Rd t sc n 0) (hRg : g ≠ 7 → tv_Rd t sc n 1) {a : Nat} (ha : a < 81) (pa : tv_Pq l t sc ov f g a) (la : ∀ b, b < a → ¬ tv_Pq l t sc ov f g b)
    (H : ∀ (xd xh : Int32) (aD aV aL bD bH bL bT aO : Nat → Int32), post (nI a) (nI l, xc, xd, xh, nI f, nI g, aT, aZ, aK, aC, aW, aD, aV, aL, bD, bH, bL, bT, aO, aR)) :
    ∀ (k : Nat) (xd xh : Int32) (aD aV aL bD bH bL bT aO : Nat → Int32), k ≤ 4 → (∀ j, j < 4 → aO j = nI (tv_ovi ov a k j)) → wX_least_13 post (k + 1) (nI (a / 3 ^ k)) (nI k + (-1)) (nI l) xc xd xh (nI f) (nI g) aT aZ aK aC aW aD aV aL bD bH bL bT aO aR := by
  intro k
  induction k with
  | zero =>
    intro xd xh aD aV aL bD bH bL bT aO _ _
    rw [Nat.pow_zero, Nat.div_one]
    exact br_t (by decide) (H _ _ _ _ _ _ _ _ _ _)
  | succ k ih =>
    intro xd xh aD aV aL bD bH bL bT aO hk hA
    rw [pk_m1 k]
    have hok : ∀ j, j < 4 → tv_ovi ov a (k + 1) j < 8 ∧ tv_ovi ov a (k + 1) j ≠ 0 := by
      intro j hj
      unfold tv_ovi
      by_cases h : k + 1 ≤ j
      · rw [if_pos h]
        exact ⟨tv_p8 _ (tv_dg_lt a j), tv_p2n _⟩
      · rw [if_neg h]
        exact hO j hj
    have hkk : tv_ovi ov a (k + 1) k = ov k := if_neg (by omega)
    refine br_f (nI_pos (by omega)) (tv_xlv (ov := tv_ovi ov a (k + 1)) (i := k) (x := tv_dg a k) hl hT h8 hK (fun j hj => ⟨hA j hj, hok j hj⟩) hf hg hRf hRg (by omega) (tv_dg_lt a k) ?_ ?_ ?_ ?_)
    · rw [hkk]
      exact pa.1 k (by omega)
    · refine ⟨a, ha, fun j hj => ?_, pa.2⟩
      rw [tv_ovi_s]
      unfold tv_ovi
      by_cases h : k ≤ j
      · rw [if_pos h]
        exact Nat.testBit_two_pow_self
      · rw [if_neg h]
        exact pa.1 j hj
    · rintro y hy hby ⟨b, hb, b1, b2⟩
      have hbk : tv_dg b k = y := by
        have h := b1 k (by omega)
        unfold tv_set at h
        rw [if_pos rfl, Nat.testBit_two_pow, decide_eq_true_eq] at h
        exact h.symm
      have hbj : ∀ j, k < j → j < 4 → tv_dg b j = tv_dg a j := by
        intro j hj hj4
        have h := b1 j hj4
        unfold tv_set tv_ovi at h
        rw [if_neg (by omega), if_pos (by omega), Nat.testBit_two_pow, decide_eq_true_eq] at h
        exact h.symm
      have hba : b < a := tv_dlt ha hb (by omega) hbj (by omega)
      refine la b hba ⟨fun j hj => ?_, b2⟩
      rcases Nat.lt_trichotomy j k with h | h | h
      · have h2 := b1 j hj
        unfold tv_set tv_ovi at h2
        rw [if_neg (by omega), if_neg (by omega)] at h2
        exact h2
      · rw [h, hbk, ← hkk]
        exact hby
      · rw [hbj j h hj]
        exact pa.1 j hj
    · intro xd xh aD aV aL bD bH bL bT aO hB
      have e : (3 : Int32) * nI (a / 3 ^ (k + 1)) + nI (tv_dg a k) = nI (a / 3 ^ k) := by
        rw [show (3 : Int32) * nI (a / 3 ^ (k + 1)) = nI (3 * (a / 3 ^ (k + 1))) from pk_mul 3 _, nI_add, tv_dgp k (by omega)]
        refine congrArg nI ?_
        rw [Nat.pow_succ, ← Nat.div_div_eq_div_mul]
        omega
      exact nm_r e (nm_e (ih _ _ _ _ _ _ _ _ _ _ (by omega) (fun j hj => by rw [hB j hj, tv_ovi_s])))
theorem tv_xleast {post : Int32 → SX → Prop} (hl : l < 3) (hT : ∀ j, aT j = nI (t j)) (h8 : ∀ j, t j < 8) (hK : ∀ c, tv_Q t sc n c → 0 < t c → t c < 4 → aK c = nI (sc c)) {ov : Nat → Nat} {xd xh : Int32} {aD aV aL bD bH bL bT aO : Nat → Int32} (hO : ∀ i, i < 4 → aO i = nI (ov i) ∧ ov i < 8 ∧ ov i ≠ 0)
    {f g : Nat} (hf : f < 8) (hg : g < 8) (hRf : f ≠ 7 → tv_Rd t sc n 0) (hRg : g ≠ 7 → tv_Rd t sc n 1)
    (H : ∀ (r xd xh : Int32) (aD aV aL bD bH bL bT aO : Nat → Int32), tv_An (tv_Pq l t sc ov f g) r → post r (nI l, xc, xd, xh, nI f, nI g, aT, aZ, aK, aC, aW, aD, aV, aL, bD, bH, bL, bT, aO, aR)) :
    wpX_least post (nI l, xc, xd, xh, nI f, nI g, aT, aZ, aK, aC, aW, aD, aV, aL, bD, bH, bL, bT, aO, aR) := by
  refine tv_xmeets (xd := xd) (xh := xh) hl hT h8 hK hO hf hg hRf hRg (fun s xd xh aD aV aL bD bH bL bT => br_f (by decide) ?_) (fun ns xd xh aD aV aL bD bH bL bT => br_t rfl (H _ _ _ _ _ _ _ _ _ _ _ (Or.inr ⟨fun a ha p => ns ⟨a, ha, p⟩, rfl⟩)))
  obtain ⟨a, ha, pa, la⟩ := tv_min (tv_Pq l t sc ov f g) 81 s
  have h := tv_xle13 (xc := xc) (aZ := aZ) (aC := aC) (aW := aW) (aR := aR) (post := post) hl hT h8 hK (fun i hi => (hO i hi).2) hf hg hRf hRg ha pa la (fun xd xh aD aV aL bD bH bL bT aO => H _ _ _ _ _ _ _ _ _ _ _ (Or.inl ⟨a, ha, pa, la, rfl⟩)) 4 xd xh aD aV aL bD bH bL bT aO (Nat.le_refl 4) (fun j hj => by
    unfold tv_ovi
    rw [if_neg (by omega)]
    exact (hO j hj).1)
  rw [pk_m1 3, show a / 3 ^ 4 = 0 from Nat.div_eq_of_lt ha] at h
  exact ⟨5, h⟩
end
end
section
/-! reading a formula -/
def tv_Ho (aC aW : Nat → Int32) : List (Nat × Nat) → Prop
  | [] => True
  | p :: O => aC O.length = nI p.1 ∧ aW O.length = nI p.2 ∧ tv_Ho aC aW O
theorem tv_ho_cong {aC aW aC' aW' : Nat → Int32} : ∀ O : List (Nat × Nat), tv_Ag O.length aC aW aC' aW' → tv_Ho aC aW O → tv_Ho aC' aW' O := by
  intro O
  induction O with
  | nil => intro _ _; trivial
  | cons p O ih =>
    intro ha h
    rw [List.length_cons] at ha
    have h1 := ha O.length (by omega)
    exact ⟨h1.1.trans h.1, h1.2.trans h.2.1, ih (fun i hi => ha i (by omega)) h.2.2⟩
def tv_sn : List (Nat × Nat) → Nat
  | [] => 0
  | p :: O => p.2 + tv_sn O
theorem tv_sn_len : ∀ O : List (Nat × Nat), (∀ p ∈ O, 1 ≤ p.2) → O.length ≤ tv_sn O := by
  intro O
  induction O with
  | nil => intro _; exact Nat.le_refl 0
  | cons p O ih =>
    intro h
    have h1 := h p List.mem_cons_self
    have h2 := ih (fun p hp => h p (List.mem_cons_of_mem _ hp))
    show O.length + 1 ≤ p.2 + tv_sn O
    omega
/-- the open places take the roots R, from the last one on -/
def tv_Mt (t : Nat → Nat) (e : Nat) : List (Nat × Nat) → List Nat → Prop
  | [], R => R = []
  | p :: O, R => (t p.1 = 0 ∧ p.2 = 1 ∧ ∃ r, R = (p.1 + 1) :: r ∧ tv_Mt t e O r) ∨ (0 < t p.1 ∧ t p.1 < 4 ∧ ∃ s r', tv_R t e (p.1 + 1) = (p.1 + 1) :: s :: r' ∧ ((p.2 = 2 ∧ ∃ r, R = (p.1 + 1) :: s :: r ∧ tv_Mt t e O r) ∨ (p.2 = 1 ∧ ∃ r, R = s :: r ∧ tv_Mt t e O r)))
theorem tv_mt_nil {t : Nat → Nat} {e : Nat} : ∀ O : List (Nat × Nat), tv_Mt t e O [] → O = [] := by
  intro O h
  match O, h with
  | [], _ => rfl
  | p :: O, h =>
    rcases h with ⟨_, _, r, h, _⟩ | ⟨_, _, s, r', _, ⟨_, r, h, _⟩ | ⟨_, r, h, _⟩⟩
    · exact nomatch h
    · exact nomatch h
    · exact nomatch h
def tv_Sk (t : Nat → Nat) (b m j : Nat) (aK : Nat → Int32) : Prop := ∃ s r, tv_R t (b + m) (b + j + 1) = (b + j + 1) :: s :: r ∧ aK (b + j) = nI s
def tv_Dn (t : Nat → Nat) (b m k : Nat) (O : List (Nat × Nat)) (aK : Nat → Int32) : Prop :=
  ∀ j, j < k → 0 < t (b + j) → t (b + j) < 4 → tv_Sk t b m j aK ∨ ∃ w, (b + j, w) ∈ O
def tv_Bd (b k : Nat) (O : List (Nat × Nat)) : Prop := ∀ p ∈ O, b ≤ p.1 ∧ p.1 < b + k ∧ 1 ≤ p.2 ∧ p.2 ≤ 2
def tv_Ou (b : Nat) (aK aK' : Nat → Int32) : Prop := ∀ j, ¬ (b ≤ j ∧ j < b + 9) → aK' j = aK j
/-- ahead of token k -/
def tv_Ri (t : Nat → Nat) (b m k : Nat) (O : List (Nat × Nat)) (aK aK' aC aW : Nat → Int32) : Prop :=
  tv_Ho aC aW O ∧ tv_Bd b k O ∧ O.length ≤ k ∧ tv_sn O + (if k = 0 then 1 else 0) = tv_op t b k ∧ tv_Ou b aK aK' ∧ (tv_Cp t b m → 0 < k → tv_Mt t (b + m) O (tv_R t (b + m) (b + k))) ∧ (tv_Cp t b m → tv_Dn t b m k O aK')
/-- when token k has taken its place -/
def tv_Rj (t : Nat → Nat) (b m k : Nat) (O : List (Nat × Nat)) (aK aK' aC aW : Nat → Int32) : Prop :=
  tv_Ho aC aW O ∧ tv_Bd b k O ∧ O.length ≤ k ∧ tv_sn O + 1 = tv_op t b k ∧ tv_Ou b aK aK' ∧ (tv_Cp t b m → ∃ r, tv_R t (b + m) (b + k) = (b + k) :: r ∧ tv_Mt t (b + m) O r) ∧ (tv_Cp t b m → tv_Dn t b m k O aK')
section
variable {t : Nat → Nat} {b m k : Nat} {O : List (Nat × Nat)} {aK aK' aC aW : Nat → Int32}
theorem tv_ri_0 : tv_Ri t b m 0 [] aK aK aC aW :=
  ⟨trivial, fun p hp => absurd hp List.not_mem_nil, Nat.le_refl 0, rfl, fun _ _ => rfl, fun _ h => absurd h (Nat.lt_irrefl 0), fun _ j hj => absurd hj (Nat.not_lt_zero j)⟩
theorem tv_rk {k : Nat} (hc : tv_Cp t b m) (hk : k < m) : ∃ r, tv_R t (b + m) (b + k) = (b + k) :: r := by
  have h1 := tv_len hc (m - k) k (by omega)
  have h2 := hc.1 k hk
  exact tv_head (by omega)
theorem tv_rj_0 (hm : 0 < m) (h : tv_Ri t b m 0 O aK aK' aC aW) : O = [] ∧ tv_Rj t b m 0 O aK aK' aC aW := by
  obtain ⟨h1, h2, h3, h4, h5, h6, h7⟩ := h
  obtain rfl : O = [] := List.length_eq_zero_iff.mp (by omega)
  refine ⟨rfl, h1, h2, h3, rfl, h5, fun hc => ?_, h7⟩
  obtain ⟨r, hr⟩ := tv_rk hc hm
  have hl := tv_len hc m 0 (by omega)
  rw [hr] at hl
  have hl' : r.length + 1 = 1 := hl
  exact ⟨r, hr, List.length_eq_zero_iff.mp (by omega)⟩
theorem tv_mem_tl {b j c w w' : Nat} {O : List (Nat × Nat)} (h : (b + j, w) ∈ (c, w') :: O) (hne : b + j ≠ c) : (b + j, w) ∈ O := by
  rcases List.mem_cons.mp h with h | h
  · exact absurd (congrArg Prod.fst h) hne
  · exact h
theorem tv_rj_1 {c : Nat} (hm : k < m) (hm9 : m ≤ 9) (hk : 0 < k) (h : tv_Ri t b m k ((c, 1) :: O) aK aK' aC aW) : tv_Rj t b m k O aK (if b + k = c + 1 then aK' else upd aK' c (nI (b + k))) aC (upd aW O.length (nI 0)) := by
  obtain ⟨h1, h2, h3, h4, h5, h6, h7⟩ := h
  rw [List.length_cons] at h3
  rw [if_neg (by omega)] at h4
  have h4' : 1 + tv_sn O + 0 = tv_op t b k := h4
  have hc := h2 (c, 1) List.mem_cons_self
  dsimp only at hc
  refine ⟨tv_ho_cong O (fun i hi => ⟨rfl, pk_un (by omega)⟩) h1.2.2, fun p hp => h2 p (List.mem_cons_of_mem _ hp), by omega, by omega, fun j hj => ?_, fun hC => ?_, fun hC => ?_⟩
  · split
    · exact h5 j hj
    · rw [pk_un (by omega)]
      exact h5 j hj
  · obtain ⟨r, hr⟩ := tv_rk hC hm
    have hM := h6 hC hk
    rw [hr] at hM
    rcases hM with ⟨_, _, r', e, hM⟩ | ⟨_, _, s, r', _, ⟨e, _⟩ | ⟨_, r'', e, hM⟩⟩
    · exact ⟨r, hr, by injection e with e1 e2; rw [e2]; exact hM⟩
    · exact absurd (show (1 : Nat) = 2 from e) (by decide)
    · exact ⟨r, hr, by injection e with e1 e2; rw [e2]; exact hM⟩
  · obtain ⟨r, hr⟩ := tv_rk hC hm
    have hM := h6 hC hk
    rw [hr] at hM
    intro j hj g g4
    by_cases e : b + j = c
    · left
      rcases hM with ⟨z, _⟩ | ⟨_, _, s, r', hs, ⟨e', _⟩ | ⟨_, r'', e', _⟩⟩
      · dsimp only at z
        rw [e, z] at g
        exact absurd g (Nat.lt_irrefl 0)
      · exact absurd (show (1 : Nat) = 2 from e') (by decide)
      · injection e' with e1 e2
        dsimp only at hs
        have h3 := tv_so2 hs
        refine ⟨s, r', by rw [e]; exact hs, ?_⟩
        rw [if_neg (by omega), e, pk_us, e1]
    · rcases h7 hC j hj g g4 with ⟨s, r', h8, h9⟩ | ⟨w, hw⟩
      · refine Or.inl ⟨s, r', h8, ?_⟩
        split
        · exact h9
        · rw [pk_un e]
          exact h9
      · exact Or.inr ⟨w, tv_mem_tl hw e⟩
theorem tv_rj_2 {c : Nat} (hm : k < m) (hm9 : m ≤ 9) (hk : 0 < k) (h : tv_Ri t b m k ((c, 2) :: O) aK aK' aC aW) : tv_Rj t b m k ((c, 1) :: O) aK (if b + k = c + 1 then aK' else upd aK' c (nI (b + k))) aC (upd aW O.length (nI 1)) := by
  obtain ⟨h1, h2, h3, h4, h5, h6, h7⟩ := h
  rw [List.length_cons] at h3
  rw [if_neg (by omega)] at h4
  have h4' : 2 + tv_sn O + 0 = tv_op t b k := h4
  have hc := h2 (c, 2) List.mem_cons_self
  dsimp only at hc
  refine ⟨⟨h1.1, pk_us, tv_ho_cong O (fun i hi => ⟨rfl, pk_un (by omega)⟩) h1.2.2⟩, fun p hp => ?_, by rw [List.length_cons]; omega, ?_, fun j hj => ?_, fun hC => ?_, fun hC => ?_⟩
  · rcases List.mem_cons.mp hp with rfl | hp
    · dsimp only
      omega
    · exact h2 p (List.mem_cons_of_mem _ hp)
  · show 1 + tv_sn O + 1 = _
    omega
  · split
    · exact h5 j hj
    · rw [pk_un (by omega)]
      exact h5 j hj
  · obtain ⟨r, hr⟩ := tv_rk hC hm
    have hM := h6 hC hk
    rw [hr] at hM
    rcases hM with ⟨_, e, _⟩ | ⟨g, g4, s, r', hs, ⟨_, r'', e, hM⟩ | ⟨e, _⟩⟩
    · exact absurd (show (2 : Nat) = 1 from e) (by decide)
    · refine ⟨r, hr, Or.inr ⟨g, g4, s, r', hs, Or.inr ⟨rfl, r'', ?_, hM⟩⟩⟩
      injection e with e1 e2
    · exact absurd (show (2 : Nat) = 1 from e) (by decide)
  · obtain ⟨r, hr⟩ := tv_rk hC hm
    have hM := h6 hC hk
    rw [hr] at hM
    have e1 : b + k = c + 1 := by
      rcases hM with ⟨_, e, _⟩ | ⟨g, g4, s, r', hs, ⟨_, r'', e, hM⟩ | ⟨e, _⟩⟩
      · exact absurd (show (2 : Nat) = 1 from e) (by decide)
      · injection e with e1 e2
      · exact absurd (show (2 : Nat) = 1 from e) (by decide)
    rw [if_pos e1]
    intro j hj g g4
    rcases h7 hC j hj g g4 with h8 | ⟨w, hw⟩
    · exact Or.inl h8
    · by_cases e : b + j = c
      · exact Or.inr ⟨1, by rw [e]; exact List.mem_cons_self⟩
      · exact Or.inr ⟨w, List.mem_cons_of_mem _ (tv_mem_tl hw e)⟩
theorem tv_bd_up {k' : Nat} (h : tv_Bd b k O) (hk : k ≤ k') : tv_Bd b k' O := fun p hp => by
  have := h p hp
  omega
theorem tv_ri_lf (hm : k < m) (g : 4 ≤ t (b + k)) (h : tv_Rj t b m k O aK aK' aC aW) : tv_Ri t b m (k + 1) O aK aK' aC aW := by
  obtain ⟨h1, h2, h3, h4, h5, h6, h7⟩ := h
  refine ⟨h1, tv_bd_up h2 (by omega), by omega, ?_, h5, fun hC _ => ?_, fun hC j hj g1 g4 => ?_⟩
  · rw [if_neg (by omega), tv_op_lf g]
    omega
  · obtain ⟨r, hr, hM⟩ := h6 hC
    rw [tv_R_step (by omega), tv_st_lf g] at hr
    injection hr with e1 e2
    rw [← Nat.add_assoc, e2]
    exact hM
  · by_cases e : j = k
    · rw [e] at g4
      omega
    · exact h7 hC j (by omega) g1 g4
theorem tv_ri_un (hm : k < m) (g : t (b + k) = 0) (h : tv_Rj t b m k O aK aK' aC aW) : tv_Ri t b m (k + 1) ((b + k, 1) :: O) aK aK' (upd aC O.length (nI (b + k))) (upd aW O.length (nI 1)) := by
  obtain ⟨h1, h2, h3, h4, h5, h6, h7⟩ := h
  refine ⟨⟨pk_us, pk_us, tv_ho_cong O (tv_ag_u (Nat.le_refl _)) h1⟩, fun p hp => ?_, by rw [List.length_cons]; omega, ?_, h5, fun hC _ => ?_, fun hC j hj g1 g4 => ?_⟩
  · rcases List.mem_cons.mp hp with rfl | hp
    · dsimp only
      omega
    · exact tv_bd_up h2 (by omega) p hp
  · rw [if_neg (by omega), tv_op_un g]
    show 1 + tv_sn O + 0 = _
    omega
  · obtain ⟨r, hr, hM⟩ := h6 hC
    rcases tv_loc hC hm with g' | ⟨_, r', hr'⟩ | ⟨g', _⟩
    · omega
    · rw [tv_R_step (by omega), tv_st_un g, hr'] at hr
      injection hr with e1 e2
      have e2' : r' = r := e2
      rw [← Nat.add_assoc]
      exact Or.inl ⟨g, rfl, r', hr', by rw [e2']; exact hM⟩
    · omega
  · by_cases e : j = k
    · rw [e] at g1
      omega
    · rcases h7 hC j (by omega) g1 g4 with h8 | ⟨w, hw⟩
      · exact Or.inl h8
      · exact Or.inr ⟨w, List.mem_cons_of_mem _ hw⟩
theorem tv_ri_bi (hm : k < m) (g : 0 < t (b + k)) (g4 : t (b + k) < 4) (h : tv_Rj t b m k O aK aK' aC aW) : tv_Ri t b m (k + 1) ((b + k, 2) :: O) aK aK' (upd aC O.length (nI (b + k))) (upd aW O.length (nI 2)) := by
  obtain ⟨h1, h2, h3, h4, h5, h6, h7⟩ := h
  refine ⟨⟨pk_us, pk_us, tv_ho_cong O (tv_ag_u (Nat.le_refl _)) h1⟩, fun p hp => ?_, by rw [List.length_cons]; omega, ?_, h5, fun hC _ => ?_, fun hC j hj g1 g2 => ?_⟩
  · rcases List.mem_cons.mp hp with rfl | hp
    · dsimp only
      omega
    · exact tv_bd_up h2 (by omega) p hp
  · rw [if_neg (by omega), tv_op_bi g g4]
    show 2 + tv_sn O + 0 = _
    omega
  · obtain ⟨r, hr, hM⟩ := h6 hC
    rcases tv_loc hC hm with g' | ⟨g', _⟩ | ⟨_, _, s, r', hr'⟩
    · omega
    · omega
    · rw [tv_R_step (by omega), tv_st_bi g g4, hr'] at hr
      injection hr with e1 e2
      have e2' : r' = r := e2
      rw [← Nat.add_assoc]
      exact Or.inr ⟨g, g4, s, r', hr', Or.inl ⟨rfl, r', hr', by rw [e2']; exact hM⟩⟩
  · by_cases e : j = k
    · exact Or.inr ⟨2, by rw [e]; exact List.mem_cons_self⟩
    · rcases h7 hC j (by omega) g1 g2 with h8 | ⟨w, hw⟩
      · exact Or.inl h8
      · exact Or.inr ⟨w, List.mem_cons_of_mem _ hw⟩
theorem tv_ri_end (h : tv_Ri t b m m O aK aK' aC aW) : (0 < m → (O.length = 0 ↔ tv_op t b m = 0)) ∧ (tv_Cp t b m → ∀ j, j < m → 0 < t (b + j) → t (b + j) < 4 → tv_Sk t b m j aK') := by
  obtain ⟨h1, h2, h3, h4, h5, h6, h7⟩ := h
  constructor
  · intro hm
    rw [if_neg (by omega)] at h4
    have hl := tv_sn_len O (fun p hp => (h2 p hp).2.2.1)
    constructor
    · intro e
      have e' := List.length_eq_zero_iff.mp e
      rw [e'] at h4
      exact h4.symm
    · intro e
      omega
  · intro hC j hj g g4
    have hM := h6 hC (by omega)
    rw [tv_R_end] at hM
    have hO := tv_mt_nil O hM
    rcases h7 hC j hj g g4 with h8 | ⟨w, hw⟩
    · exact h8
    · rw [hO] at hw
      exact nomatch hw
end
end
section
/-! the walks of read, complete and value -/
def tv_wa (x : Nat) : Nat := if x = 0 then 1 else if 4 ≤ x then 0 else 2
section
variable {xl xc xd xh xf xg : Int32} {aT aZ aK aC aW aD aV aL bD bH bL bT aO aR : Nat → Int32} {t n : Nat → Nat} {l : Nat}
theorem tv_xwa {post : Int32 → Prop} {x : Nat} {p0 : Int32} (hp : p0 = nI x) (hx : x < 8) (h : post (nI (tv_wa x))) : wpX_wants post p0 := by
  subst hp
  unfold tv_wa at h
  refine pk_eq x 0 (fun e => ?_) (fun e => pk_le 4 x (fun e2 => ?_) (fun e2 => ?_))
  · rw [if_pos e] at h
    exact h
  · rw [if_neg e, if_pos e2] at h
    exact h
  · rw [if_neg e, if_neg (by omega)] at h
    exact h
theorem tv_xatt {post : SX → Prop} {c w y z : Nat} (hC : aC z = nI c) (hW : aW z = nI w) (hz : z < 10) (hc : c < 18) (hy : y < 128) (hw : 1 ≤ w) (hw2 : w ≤ 2)
    (h1 : w = 1 → post (xl, nI z, xd, xh, xf, xg, aT, aZ, if y = c + 1 then aK else upd aK c (nI y), aC, upd aW z (nI 0), aD, aV, aL, bD, bH, bL, bT, aO, aR))
    (h2 : w = 2 → post (xl, nI (z + 1), xd, xh, xf, xg, aT, aZ, if y = c + 1 then aK else upd aK c (nI y), aC, upd aW z (nI 1), aD, aV, aL, bD, bH, bL, bT, aO, aR)) :
    wpX_attach post (xl, nI (z + 1), xd, xh, xf, xg, aT, aZ, aK, aC, aW, aD, aV, aL, bD, bH, bL, bT, aO, aR) (nI y) := by
  have hin : vp_in (nI z) 10 := vp_in_nI hz (by omega)
  have hcc : aC (nI z).toNatClampNeg = nI c := tv_rd rfl (by omega) hC
  have key : ∀ aK' : Nat → Int32, aK' = (if y = c + 1 then aK else upd aK c (nI y)) → wX_attach_32 post (nI z) xl (nI (z + 1)) xd xh xf xg aT aZ aK' aC aW aD aV aL bD bH bL bT aO aR := by
    intro aK' e
    subst e
    have hw1 : aW (nI z).toNatClampNeg - 1 = nI (w - 1) := by
      rw [tv_rd rfl (by omega) hW]
      exact pk_sub (b := 1) hw
    refine ⟨hin, hin, nm_r (e' := upd aW z (nI (w - 1))) (tv_up rfl hw1 (by omega) (by omega)) ⟨hin, ?_⟩⟩
    refine pk_eq (w - 1) 0 (fun e => ?_) (fun e => ?_) (tv_rd rfl (by omega) pk_us) rfl
    · obtain rfl : w = 1 := by omega
      exact nm_r (nI_pred z) (h1 rfl)
    · obtain rfl : w = 2 := by omega
      exact h2 rfl
  refine nm_r (nI_pred z) ⟨hin, ?_⟩
  refine pk_eq y (c + 1) (fun e => key _ ?_) (fun e => ⟨hin, ?_, nm_r (e' := upd aK c (nI y)) (tv_up hcc rfl (by omega) hy) (key _ ?_)⟩) rfl (by rw [hcc]; exact nI_1 c)
  · rw [if_pos e]
  · rw [hcc]
    exact vp_in_nI hc (by omega)
  · rw [if_neg e]
theorem tv_x36 {post : SX → Prop} {J : Int32 → Int32 → Int32 → Int32 → Int32 → Int32 → Int32 → (Nat → Int32) → (Nat → Int32) → (Nat → Int32) → (Nat → Int32) → (Nat → Int32) → (Nat → Int32) → (Nat → Int32) → (Nat → Int32) → (Nat → Int32) → (Nat → Int32) → (Nat → Int32) → (Nat → Int32) → (Nat → Int32) → (Nat → Int32) → Prop} {x1 : Int32} {y z k : Nat} (hT : ∀ j, aT j = nI (t j)) (h8 : ∀ j, t j < 8) (hz : z < 10) (hy : y < 18)
    (h0 : 4 ≤ t y → J (nI (k + 1)) xl (nI z) xd xh xf xg aT aZ aK aC aW aD aV aL bD bH bL bT aO aR)
    (h1 : t y = 0 → J (nI (k + 1)) xl (nI (z + 1)) xd xh xf xg aT aZ aK (upd aC z (nI y)) (upd aW z (nI 1)) aD aV aL bD bH bL bT aO aR)
    (h2 : 0 < t y → t y < 4 → J (nI (k + 1)) xl (nI (z + 1)) xd xh xf xg aT aZ aK (upd aC z (nI y)) (upd aW z (nI 2)) aD aV aL bD bH bL bT aO aR) :
    wX_read_36 post J x1 (nI k) (nI y) xl (nI z) xd xh xf xg aT aZ aK aC aW aD aV aL bD bH bL bT aO aR := by
  have hin : vp_in (nI z) 10 := vp_in_nI hz (by omega)
  refine ⟨vp_in_nI hy (by omega), tv_xwa (tv_rd rfl (by omega) (hT y)) (h8 y) ?_⟩
  rcases tv_k3 (t y) with g | g | g
  · rw [show tv_wa (t y) = 0 by unfold tv_wa; rw [if_neg (by omega), if_pos g]]
    exact br_t (by decide) (nm_r (nI_1 k) (h0 g))
  · rw [show tv_wa (t y) = 1 by unfold tv_wa; rw [if_pos g]]
    exact br_f (by decide) ⟨hin, nm_r (tv_up (i := z) (c := y) rfl rfl (by omega) (by omega)) ⟨hin, nm_r (tv_up (i := z) (c := 1) rfl rfl (by omega) (by omega)) (nm_r (nI_1 z) (nm_r (nI_1 k) (h1 g)))⟩⟩
  · rw [show tv_wa (t y) = 2 by unfold tv_wa; rw [if_neg (by omega), if_neg (by omega)]]
    exact br_f (by decide) ⟨hin, nm_r (tv_up (i := z) (c := y) rfl rfl (by omega) (by omega)) ⟨hin, nm_r (tv_up (i := z) (c := 2) rfl rfl (by omega) (by omega)) (nm_r (nI_1 z) (nm_r (nI_1 k) (h2 g.1 g.2)))⟩⟩
theorem tv_xr7 {post : SX → Prop} {f m : Nat} (hf : f < 2) (hT : ∀ j, aT j = nI (t j)) (h8 : ∀ j, t j < 8) (hZ : aZ f = nI m) (hm : m ≤ 9) (hp : ∀ k, k < m → 0 < tv_op t (9 * f) k)
    (H : ∀ (O : List (Nat × Nat)) (aK' aC aW : Nat → Int32), tv_Ri t (9 * f) m m O aK aK' aC aW → post (xl, nI O.length, xd, xh, xf, xg, aT, aZ, aK', aC, aW, aD, aV, aL, bD, bH, bL, bT, aO, aR)) :
    ∀ (e k : Nat) (O : List (Nat × Nat)) (aK' aC aW : Nat → Int32), k + e = m → tv_Ri t (9 * f) m k O aK aK' aC aW → wX_read_7 post (nI f) (e + 1) (nI k) xl (nI O.length) xd xh xf xg aT aZ aK' aC aW aD aV aL bD bH bL bT aO aR := by
  intro e
  induction e with
  | zero =>
    intro k O aK' aC aW hk I
    obtain rfl : k = m := by omega
    refine ⟨vp_in_nI hf (by omega), br_t ?_ (H O aK' aC aW I)⟩
    rw [tv_rd (y := nI k) rfl (by omega) hZ]
    exact nI_le (Nat.le_refl k) (by omega)
  | succ e ih =>
    intro k O aK' aC aW hk I
    have hO := I.2.2.1
    have hn : ¬ aZ (nI f).toNatClampNeg ≤ nI k := by
      rw [tv_rd (y := nI m) rfl (by omega) hZ]
      exact nI_ge (by omega) (by omega)
    have he : nI f * 9 + nI k = nI (9 * f + k) := by
      rw [show nI f * 9 = nI (f * 9) from pk_mul f 9, nI_add, Nat.mul_comm]
    have next : ∀ (O : List (Nat × Nat)) (aK' aC aW : Nat → Int32), tv_Rj t (9 * f) m k O aK aK' aC aW → wX_read_36 post (wX_read_7 post (nI f) (e + 1)) (nI f) (nI k) (nI (9 * f + k)) xl (nI O.length) xd xh xf xg aT aZ aK' aC aW aD aV aL bD bH bL bT aO aR := by
      intro O aK' aC aW I
      have hO := I.2.2.1
      exact tv_x36 hT h8 (by omega) (by omega) (fun g => ih (k + 1) O _ _ _ (by omega) (tv_ri_lf (by omega) g I)) (fun g => ih (k + 1) ((9 * f + k, 1) :: O) _ _ _ (by omega) (tv_ri_un (by omega) g I)) (fun g g4 => ih (k + 1) ((9 * f + k, 2) :: O) _ _ _ (by omega) (tv_ri_bi (by omega) g g4 I))
    refine ⟨vp_in_nI hf (by omega), br_f hn (nm_r he ?_)⟩
    by_cases hk0 : k = 0
    · subst hk0
      obtain ⟨rfl, I'⟩ := tv_rj_0 (by omega) I
      exact br_t (by decide) (next [] _ _ _ I')
    · have hop := hp k (by omega)
      have hsn := I.2.2.2.1
      rw [if_neg hk0] at hsn
      match O, hO, hsn, I with
      | [], _, hsn, _ =>
        have hsn' : 0 + 0 = tv_op t (9 * f) k := hsn
        omega
      | (c, w) :: O, hO, _, I =>
        have hb := I.2.1 (c, w) List.mem_cons_self
        dsimp only at hb
        rw [List.length_cons] at hO
        refine br_f (nI_nle (by rw [List.length_cons]; omega) (by rw [List.length_cons]; omega)) ?_
        refine tv_xatt (c := c) (w := w) (z := O.length) I.1.1 I.1.2.1 (by omega) (by omega) (by omega) hb.2.2.1 hb.2.2.2 (fun e1 => ?_) (fun e1 => ?_)
        · subst e1
          exact next O _ _ _ (tv_rj_1 (by omega) hm (by omega) I)
        · subst e1
          exact next ((c, 1) :: O) _ _ _ (tv_rj_2 (by omega) hm (by omega) I)
theorem tv_xread {post : SX → Prop} {f m : Nat} (hf : f < 2) (hT : ∀ j, aT j = nI (t j)) (h8 : ∀ j, t j < 8) (hZ : aZ f = nI m) (hm : m ≤ 9) (hp : ∀ k, k < m → 0 < tv_op t (9 * f) k)
    (H : ∀ (O : List (Nat × Nat)) (aK' aC aW : Nat → Int32), tv_Ri t (9 * f) m m O aK aK' aC aW → post (xl, nI O.length, xd, xh, xf, xg, aT, aZ, aK', aC, aW, aD, aV, aL, bD, bH, bL, bT, aO, aR)) : wpX_read post (xl, xc, xd, xh, xf, xg, aT, aZ, aK, aC, aW, aD, aV, aL, bD, bH, bL, bT, aO, aR) (nI f) :=
  ⟨m + 1, tv_xr7 hf hT h8 hZ hm hp H m 0 [] aK aC aW (Nat.zero_add m) tv_ri_0⟩
theorem tv_xisf {post : Int32 → Prop} {f : Nat} (hf : f < 2) (h : post 1) : wpX_isFormula post (nI f) := by
  match f, hf with
  | 0, _ => exact br_t rfl h
  | 1, _ => exact br_f (by decide) (br_t rfl h)
/-- the class's second parts, as numbers -/
def tv_sc (aK : Nat → Int32) : Nat → Nat := fun j => (aK j).toNatClampNeg
def tv_cb (t : Nat → Nat) (b m : Nat) : Int32 := if tv_op t b m = 0 then 1 else 0
theorem tv_rd_of {f : Nat} {aK : Nat → Int32} (hf : f < 2) (hm : n f ≤ 9) (hC : tv_Cp t (9 * f) (n f)) (h : ∀ j, j < n f → 0 < t (9 * f + j) → t (9 * f + j) < 4 → tv_Sk t (9 * f) (n f) j aK) : tv_Rd t (tv_sc aK) n f := by
  refine ⟨⟨hC, fun k hk g g4 => ?_⟩, hm⟩
  obtain ⟨s, r, hr, he⟩ := h k hk g g4
  have hs := (tv_so2 hr).2
  refine ⟨r, ?_⟩
  rw [hr]
  unfold tv_sc
  rw [he, nI_clamp (by omega)]
theorem tv_xcomp {post : Int32 → SX → Prop} {f : Nat} (hf : f < 2) (hT : ∀ j, aT j = nI (t j)) (h8 : ∀ j, t j < 8) (hZ : aZ f = nI (n f)) (hm : n f ≤ 9) (hp : ∀ k, k < n f → 0 < tv_op t (9 * f) k)
    (H : ∀ (xc : Int32) (aK' aC aW : Nat → Int32), tv_Ou (9 * f) aK aK' → (tv_op t (9 * f) (n f) = 0 → tv_Rd t (tv_sc aK') n f) → post (tv_cb t (9 * f) (n f)) (xl, xc, xd, xh, xf, xg, aT, aZ, aK', aC, aW, aD, aV, aL, bD, bH, bL, bT, aO, aR)) : wpX_complete post (xl, xc, xd, xh, xf, xg, aT, aZ, aK, aC, aW, aD, aV, aL, bD, bH, bL, bT, aO, aR) (nI f) := by
  unfold wpX_complete
  refine tv_xisf hf ?_
  refine br_f (by decide) ?_
  refine tv_xread hf hT h8 hZ hm hp (fun O aK' aC aW I => ?_)
  refine ⟨vp_in_nI hf (by omega), ?_⟩
  obtain ⟨e1, e2⟩ := tv_ri_end I
  have h := H (nI O.length) aK' aC aW I.2.2.2.2.1 (fun e => tv_rd_of hf hm ⟨hp, e⟩ (e2 ⟨hp, e⟩))
  have hlen := I.2.2.1
  unfold tv_cb at h
  refine pk_le (n f) 0 (fun g => ?_) (fun g => pk_eq O.length 0 (fun g2 => ?_) (fun g2 => ?_)) (tv_rd rfl (by omega) hZ) rfl
  · have e0 : n f = 0 := by omega
    rw [if_neg (by rw [e0]; show ¬ (1 : Nat) = 0; omega)] at h
    exact h
  · rw [if_pos ((e1 g).mp g2)] at h
    exact h
  · rw [if_neg (fun z => g2 ((e1 g).mpr z))] at h
    exact h
theorem tv_xcomp0 {post : Int32 → SX → Prop} {u : SX} {p0 : Int32} (h0 : ¬ p0 = 0) (h1 : ¬ p0 = 1) (H : post 0 u) : wpX_complete post u p0 := by
  obtain ⟨xl, xc, xd, xh, xf, xg, aT, aZ, aK, aC, aW, aD, aV, aL, bD, bH, bL, bT, aO, aR⟩ := u
  exact br_f h0 (br_f h1 (br_t rfl H))
theorem tv_hK {sc : Nat → Nat} {aK : Nat → Int32} (hs : sc = tv_sc aK) : ∀ c, tv_Q t sc n c → 0 < t c → t c < 4 → aK c = nI (sc c) := by
  intro c hQ g g4
  have hb := tv_Q_bi hQ g g4
  subst hs
  have h : c + 1 < (aK c).toNatClampNeg := hb.2.2
  show aK c = nI (aK c).toNatClampNeg
  by_cases hz : aK c < 0
  · have e : (aK c).toNatClampNeg = 0 := by
      have := Int32.lt_iff_toInt_lt.mp hz
      rw [show (0 : Int32).toInt = 0 from by decide] at this
      show (aK c).toInt.toNat = 0
      omega
    omega
  · obtain ⟨j, hj, e⟩ := nI_of hz
    rw [e, nI_clamp hj]
theorem tv_fm_cong {sc sc' : Nat → Nat} {b m : Nat} (h : ∀ k, k < m → sc' (b + k) = sc (b + k)) (hF : tv_Fm t sc b m) : tv_Fm t sc' b m :=
  ⟨hF.1, fun k hk g g4 => by rw [h k hk]; exact hF.2 k hk g g4⟩
theorem tv_x29 {post : Int32 → SX → Prop} {sc : Nat → Nat} {f a : Nat} (hl : l < 3) (hf : f < 2) (ha : a < 81) (hT : ∀ j, aT j = nI (t j)) (h8 : ∀ j, t j < 8) (hK : ∀ c, tv_Q t sc n c → 0 < t c → t c < 4 → aK c = nI (sc c)) (hR : tv_Rd t sc n f)
    (H : ∀ aR : Nat → Int32, post (nI (tv_V l t sc a (9 * f))) (nI l, xc, xd, xh, xf, xg, aT, aZ, aK, aC, aW, aD, aV, aL, bD, bH, bL, bT, aO, aR)) :
    ∀ (k : Nat) (aR : Nat → Int32), k ≤ n f → (∀ j, k ≤ j → j < n f → aR (9 * f + j) = nI (tv_V l t sc a (9 * f + j))) → wX_value_29 post (nI f) (nI a) (nI l) xc xd xh xf xg (k + 1) (nI k + (-1)) aT aZ aK aC aW aD aV aL bD bH bL bT aO aR := by
  intro k
  have hm := hR.2
  have h9 : nI f * 9 = nI (9 * f) := by rw [show nI f * 9 = nI (f * 9) from pk_mul f 9, Nat.mul_comm]
  induction k with
  | zero =>
    intro aR _ hA
    have hn := tv_n0 hR.1
    refine br_t (by decide) ?_
    rw [h9]
    refine ⟨vp_in_nI (by omega) (by omega), ?_⟩
    have h0 : aR (9 * f) = nI (tv_V l t sc a (9 * f)) := hA 0 (Nat.le_refl 0) hn
    rw [tv_rd rfl (by omega) h0]
    exact H aR
  | succ k ih =>
    intro aR hk hA
    rw [pk_m1 k]
    have he : nI f * 9 + nI k = nI (9 * f + k) := by rw [h9, nI_add]
    have hin : vp_in (nI (9 * f + k)) 18 := vp_in_nI (by omega) (by omega)
    have hQ : tv_Q t sc n (9 * f + k) := ⟨f, hf, hR.1, hm, by omega, by omega⟩
    have ht8 := h8 (9 * f + k)
    have next : ∀ x, x = tv_V l t sc a (9 * f + k) → wX_value_29 post (nI f) (nI a) (nI l) xc xd xh xf xg (k + 1) (nI k + (-1)) aT aZ aK aC aW aD aV aL bD bH bL bT aO (upd aR (9 * f + k) (nI x)) := by
      intro x ex
      refine ih _ (by omega) (fun j h1 h2 => ?_)
      by_cases e : j = k
      · rw [e, pk_us, ex]
      · rw [pk_un (by omega)]
        exact hA j (by omega) h2
    have hsm : ∀ x, x < 3 → x < 128 := fun x h => by omega
    refine br_f (nI_pos (by omega)) (nm_r he ⟨hin, nm_r (e' := nI (t (9 * f + k))) (tv_rd rfl (by omega) (hT _)) ?_⟩)
    refine pk_lt (t (9 * f + k)) 4 (fun g => pk_eq (t (9 * f + k)) 0 (fun g0 => ?_) (fun g0 => ?_)) (fun g => ?_)
    · rcases tv_loc hR.1.1 (k := k) (by omega) with g' | ⟨_, r, hr⟩ | ⟨g', _⟩
      · omega
      · have h1 := tv_so1 hr
        have e1 : nI (9 * f + k) + 1 = nI (9 * f + (k + 1)) := nI_1 _
        rw [e1]
        refine ⟨vp_in_nI (by omega) (by omega), ?_⟩
        rw [tv_rd (y := nI (tv_V l t sc a (9 * f + (k + 1)))) rfl (by omega) (hA (k + 1) (Nat.le_refl _) (by omega))]
        exact tv_xnot hl tv_V_lt ⟨hin, nm_r (tv_up rfl rfl (by omega) (hsm _ (tv_ng_lt _ _))) (nm_e (next _ (tv_V_un hQ g0).symm))⟩
      · omega
    · obtain ⟨r, hr⟩ := hR.1.2 k (by omega) (by omega) g
      have h1 := tv_so1 hr
      have h2 := tv_so2 hr
      have hs : aK (nI (9 * f + k)).toNatClampNeg = nI (sc (9 * f + k)) := tv_rd rfl (by omega) (hK _ hQ (by omega) g)
      obtain ⟨s, hs'⟩ : ∃ s, sc (9 * f + k) = 9 * f + s := ⟨sc (9 * f + k) - 9 * f, by omega⟩
      have e1 : nI (9 * f + k) + 1 = nI (9 * f + (k + 1)) := nI_1 _
      rw [e1, hs]
      refine ⟨vp_in_nI (by omega) (by omega), hin, vp_in_nI (by omega) (by omega), ?_⟩
      rw [tv_rd (y := nI (tv_V l t sc a (9 * f + (k + 1)))) rfl (by omega) (hA (k + 1) (Nat.le_refl _) (by omega)), hs', tv_rd (y := nI (tv_V l t sc a (9 * f + s))) rfl (by omega) (hA s (by omega) (by omega))]
      refine tv_xap hl (by omega) tv_V_lt tv_V_lt ⟨hin, nm_r (tv_up rfl rfl (by omega) (hsm _ (tv_ap_lt tv_V_lt tv_V_lt))) (nm_e (next _ ?_))⟩
      rw [tv_V_bi hQ (by omega) g, hs']
      rfl
    · rw [show nI (t (9 * f + k)) - 4 = nI (t (9 * f + k) - 4) from pk_sub (b := 4) g]
      exact (tv_xval (by omega) ha ⟨hin, nm_r (tv_up rfl rfl (by omega) (hsm _ (tv_dg_lt _ _))) (nm_e (next _ (tv_V_lf g).symm))⟩)
end
end
section
/-! the reference: complete, eval -/
def tv_Ok (l : Nat) (t n : Nat → Nat) (aT aZ : Nat → Int32) : Prop := l < 3 ∧ (∀ j, aT j = nI (t j)) ∧ (∀ j, t j < 8) ∧ ∀ f, f < 2 → aZ f = nI (n f) ∧ n f ≤ 9 ∧ ∀ k, k < n f → 0 < tv_op t (9 * f) k
theorem tv_op_le (t : Nat → Nat) (b : Nat) : ∀ k, tv_op t b k ≤ k + 1 := by
  intro k
  induction k with
  | zero => exact Nat.le_refl 1
  | succ k ih =>
    rcases tv_k3 (t (b + k)) with g | g | g
    · rw [tv_op_lf g]
      omega
    · rw [tv_op_un g]
      omega
    · rw [tv_op_bi g.1 g.2]
      omega
theorem tv_uq {a : Nat → Int32} {x v w : Int32} {i : Nat} (hx : x = nI i) (hi : i < 1000) (hv : v = w) : upd a x.toNatClampNeg v = upd a i w := by
  rw [hx, nI_clamp (by omega), hv]
def tv_Hs (st : Nat → Int32) : List Nat → Prop
  | [] => True
  | v :: L => st L.length = nI v ∧ tv_Hs st L
theorem tv_hs_u {st : Nat → Int32} {i : Nat} {x : Int32} : ∀ L : List Nat, L.length ≤ i → tv_Hs st L → tv_Hs (upd st i x) L := by
  intro L
  induction L with
  | nil => intro _ _; trivial
  | cons v L ih =>
    intro hi h
    rw [List.length_cons] at hi
    exact ⟨(pk_un (by omega)).trans h.1, ih (by omega) h.2⟩
theorem tv_R_len (t : Nat → Nat) (e : Nat) : ∀ d k, k + d = e → (tv_R t e k).length ≤ d := by
  intro d
  induction d with
  | zero =>
    intro k hk
    obtain rfl : k = e := by omega
    rw [tv_R_end]
    exact Nat.le_refl 0
  | succ d ih =>
    intro k hk
    have h := ih (k + 1) (by omega)
    rw [tv_R_step (by omega)]
    rcases tv_k3 (t k) with c | c | c
    · rw [tv_st_lf c, List.length_cons]
      omega
    · rw [tv_st_un c, List.length_cons, List.length_drop]
      omega
    · rw [tv_st_bi c.1 c.2, List.length_cons, List.length_drop]
      omega
section
variable {aT aZ st : Nat → Int32} {t sc n : Nat → Nat} {l : Nat}
theorem tv_yc15 {post : Int32 → Prop} {xl : Int32} {f m : Nat} (hf : f < 2) (hT : ∀ j, aT j = nI (t j)) (h8 : ∀ j, t j < 8) (hZ : aZ f = nI m) (hm : m ≤ 9) (hp : ∀ k, k < m → 0 < tv_op t (9 * f) k) (H : post (tv_cb t (9 * f) m)) :
    ∀ e k, k + e = m → wY_complete_15 post (nI f) xl aZ aT st (e + 1) (nI (tv_op t (9 * f) k)) (nI k) := by
  have hz : aZ (nI f).toNatClampNeg = nI m := tv_rd rfl (by omega) hZ
  unfold tv_cb at H
  intro e
  induction e with
  | zero =>
    intro k hk
    obtain rfl : k = m := by omega
    have h1 := tv_op_le t (9 * f) k
    refine ⟨vp_in_nI hf (by omega), br_t (by rw [hz]; exact nI_le (Nat.le_refl k) (by omega)) (pk_eq (tv_op t (9 * f) k) 0 (fun g => ?_) (fun g => ?_))⟩
    · rw [if_pos g] at H
      exact H
    · rw [if_neg g] at H
      exact H
  | succ e ih =>
    intro k hk
    have hpk := hp k (by omega)
    have ih' := ih (k + 1) (by omega)
    have he : 9 * nI f + nI k = nI (9 * f + k) := by
      rw [show (9 : Int32) * nI f = nI (9 * f) from pk_mul 9 f, nI_add]
    have ht8 := h8 (9 * f + k)
    refine ⟨vp_in_nI hf (by omega), br_f (by rw [hz]; exact nI_ge (by omega) (by omega)) ?_⟩
    rw [he]
    refine ⟨vp_in_nI (by omega) (by omega), nm_r (e' := nI (t (9 * f + k))) (tv_rd rfl (by omega) (hT _)) (pk_eq (t (9 * f + k)) 0 (fun g => nm_r (nI_1 k) ?_) (fun g => pk_lt 3 (t (9 * f + k)) (fun g2 => nm_r (e' := nI (tv_op t (9 * f) k - 1)) (pk_sub (b := 1) hpk) (nm_r (nI_1 k) ?_)) (fun g2 => nm_r (nI_1 _) (nm_r (nI_1 k) ?_))))⟩
    · rw [tv_op_un g] at ih'
      exact ih'
    · rw [tv_op_lf g2] at ih'
      exact ih'
    · rw [tv_op_bi (by omega) (by omega)] at ih'
      exact ih'
theorem tv_ycomp {post : Int32 → Prop} {xl : Int32} {f : Nat} (hf : f < 2) (ok : tv_Ok l t n aT aZ) (H : post (tv_cb t (9 * f) (n f))) : wpY_complete post (xl, aZ, aT, st) (nI f) := by
  obtain ⟨hZ, hm, hp⟩ := ok.2.2.2 f hf
  have h := tv_yc15 (st := st) (xl := xl) hf ok.2.1 ok.2.2.1 hZ hm hp H (n f) 0 (by omega)
  match f, hf, h with
  | 0, _, h => exact br_t rfl ⟨_, h⟩
  | 1, _, h => exact br_f (by decide) (br_t rfl ⟨_, h⟩)
theorem tv_ycomp0 {post : Int32 → Prop} {v : SY} {p0 : Int32} (h0 : ¬ p0 = 0) (h1 : ¬ p0 = 1) (H : post 0) : wpY_complete post v p0 := by
  obtain ⟨xl, aZ, aT, st⟩ := v
  exact br_f h0 (br_f h1 H)
theorem tv_ynot {post : Int32 → Prop} {x : Nat} (hl : l < 3) (hx : x < 3) (h : post (nI (tv_ng l x))) : wpY_not post (nI l, aZ, aT, st) (nI x) := by
  unfold tv_ng at h
  refine pk_le 2 l (fun e => ?_) (fun e => ?_)
  · rw [if_pos (by omega)] at h
    refine pk_eq x 0 (fun e2 => ?_) (fun e2 => ?_)
    · rw [if_pos e2] at h
      exact h
    · rw [if_neg e2] at h
      exact h
  · rw [if_neg (by omega)] at h
    rw [show (2 : Int32) - nI x = nI (2 - x) from pk_sub (a := 2) (by omega)]
    exact h
theorem tv_yimp {post : Int32 → Prop} {p q : Nat} (hl : l < 3) (hp : p < 3) (hq : q < 3) (h : post (nI (tv_ap l 3 p q))) : wpY_implies post (nI l, aZ, aT, st) (nI p) (nI q) := by
  have e3 : (2 : Int32) - nI p = nI (2 - p) := pk_sub (a := 2) (by omega)
  have e4 : (2 : Int32) - nI p + nI q = nI (2 - p + q) := by rw [e3, nI_add]
  unfold tv_ap at h
  rw [if_neg (by decide), if_neg (by decide)] at h
  refine pk_eq l 0 (fun e => ?_) (fun e => ?_)
  · rw [if_pos e] at h
    refine pk_le 2 (2 - p + q) (fun e2 => ?_) (fun e2 => ?_) rfl e4
    · rw [if_pos e2] at h
      exact h
    · rw [if_neg (by omega)] at h
      rw [e4]
      exact h
  · rw [if_neg e] at h
    refine pk_eq l 1 (fun e => ?_) (fun e => ?_)
    · rw [if_pos e] at h
      refine pk_le (2 - p) q (fun e2 => ?_) (fun e2 => ?_) e3 rfl
      · rw [if_pos e2] at h
        exact h
      · rw [if_neg (by omega)] at h
        rw [e3]
        exact h
    · rw [if_neg e] at h
      refine pk_lt q p (fun e2 => ?_) (fun e2 => ?_)
      · rw [if_pos e2] at h
        exact h
      · rw [if_neg (by omega)] at h
        exact h
theorem tv_ylet {post : Int32 → Prop} {xl : Int32} {i a : Nat} (hi : i < 4) (ha : a < 81) (h : post (nI (tv_dg a i))) : wpY_letter post (xl, aZ, aT, st) (nI i) (nI a) := by
  have r3 : ∀ x, x < 81 → nI x - nI x / 3 * 3 = nI (x % 3) := fun x hx => pk_rem (d := 3) (by omega) (by omega) (by omega)
  have d3 : nI a / 3 = nI (a / 3) := pk_div (d := 3) (by omega) (by omega) (by omega)
  have d9 : nI a / 9 = nI (a / 9) := pk_div (d := 9) (by omega) (by omega) (by omega)
  have d27 : nI a / 27 = nI (a / 27) := pk_div (d := 27) (by omega) (by omega) (by omega)
  match i, hi, h with
  | 0, _, h =>
    refine br_t rfl ⟨by decide, ?_⟩
    rw [r3 a ha]
    exact h
  | 1, _, h =>
    refine br_f (by decide) (br_t rfl ⟨by decide, by decide, ?_⟩)
    rw [d3, r3 _ (by omega)]
    exact h
  | 2, _, h =>
    refine br_f (by decide) (br_f (by decide) (br_t rfl ⟨by decide, by decide, ?_⟩))
    rw [d9, r3 _ (by omega)]
    exact h
  | 3, _, h =>
    refine br_f (by decide) (br_f (by decide) (br_f (by decide) ⟨by decide, ?_⟩))
    rw [d27]
    have e : tv_dg a 3 = a / 27 := by
      show a / 27 % 3 = a / 27
      omega
    rw [e] at h
    exact h
theorem tv_ye91 {post : Int32 → SY → Prop} {J : Int32 → Int32 → (Nat → Int32) → (Nat → Int32) → (Nat → Int32) → Prop} {x1 x2 : Int32} {L : List Nat} {p q x k : Nat} (hl : l < 3) (hs : tv_Hs st (p :: q :: L)) (hp : p < 3) (hq : q < 3) (hx : 0 < x) (hx4 : x < 4) (hlen : L.length ≤ 8)
    (h : J (nI (L.length + 1)) (nI k + (-1)) aZ aT (upd st L.length (nI (tv_ap l x p q)))) : wY_eval_91 post J x1 x2 (nI (L.length + 2)) (nI k) (nI x) (nI l) aZ aT st := by
  have e1 : nI (L.length + 2) - 1 = nI (L.length + 1) := nI_pred _
  have e2 : nI (L.length + 2) - 2 = nI L.length := pk_sub (a := L.length + 2) (b := 2) (by omega)
  have e3 : nI (L.length + 1) - 1 = nI L.length := nI_pred _
  have hin : vp_in (nI (L.length + 1) - 1) 10 := by rw [e3]; exact vp_in_nI (by omega) (by omega)
  have fin : ∀ v : Nat, v = tv_ap l x p q → vp_in (nI (L.length + 1) - 1) 10 ∧ ∀ st' : Nat → Int32, st' = upd st (nI (L.length + 1) - 1).toNatClampNeg (nI v) → ∀ x4 : Int32, x4 = nI k + (-1) → J (nI (L.length + 1)) x4 aZ aT st' := by
    intro v ev
    subst ev
    exact ⟨hin, nm_r (tv_uq e3 (by omega) rfl) (nm_e h)⟩
  refine br_f (nI_nlt (b := 2) (by omega) (by omega)) ⟨by rw [e1]; exact vp_in_nI (by omega) (by omega), nm_r (e' := nI p) (tv_rd e1 (by omega) hs.1) ⟨by rw [e2]; exact vp_in_nI (by omega) (by omega), nm_r (e' := nI q) (tv_rd e2 (by omega) hs.2.1) (nm_r (pk_m1 (L.length + 1)) ?_)⟩⟩
  refine pk_eq x 1 (fun g => pk_le q p (fun g2 => fin q ?_) (fun g2 => fin p ?_)) (fun g => pk_eq x 2 (fun g1 => pk_le p q (fun g2 => fin q ?_) (fun g2 => fin p ?_)) (fun g1 => tv_yimp hl hp hq (fin _ ?_)))
  · unfold tv_ap
    rw [if_pos g, if_pos g2]
  · unfold tv_ap
    rw [if_pos g, if_neg (by omega)]
  · unfold tv_ap
    rw [if_neg g, if_pos g1, if_pos g2]
  · unfold tv_ap
    rw [if_neg g, if_pos g1, if_neg (by omega)]
  · rw [show x = 3 by omega]
theorem tv_ye12 {post : Int32 → SY → Prop} {f a : Nat} (hl : l < 3) (hf : f < 2) (ha : a < 81) (hT : ∀ j, aT j = nI (t j)) (h8 : ∀ j, t j < 8) (hR : tv_Rd t sc n f)
    (H : ∀ st : Nat → Int32, post (nI (tv_V l t sc a (9 * f))) (nI l, aZ, aT, st)) :
    ∀ (k : Nat) (st : Nat → Int32), k ≤ n f → tv_Hs st ((tv_R t (9 * f + n f) (9 * f + k)).map (tv_V l t sc a)) → wY_eval_12 post (nI f) (nI a) (nI l) (k + 1) (nI (tv_R t (9 * f + n f) (9 * f + k)).length) (nI k + (-1)) aZ aT st := by
  intro k
  have hm := hR.2
  have hn := tv_n0 hR.1
  induction k with
  | zero =>
    intro st _ hs
    refine br_t (by decide) ?_
    obtain ⟨r, hr⟩ := tv_rk hR.1.1 hn
    have hl := tv_len hR.1.1 (n f) 0 (by omega)
    rw [hr] at hl hs
    have hl' : r.length + 1 = 1 := hl
    have hr0 : r = [] := List.length_eq_zero_iff.mp (by omega)
    rw [hr0] at hs
    have hs0 : st 0 = nI (tv_V l t sc a (9 * f)) := hs.1
    rw [hs0]
    exact H st
  | succ k ih =>
    intro st hk hs
    rw [pk_m1 k]
    have he : 9 * nI f + nI k = nI (9 * f + k) := by
      rw [show (9 : Int32) * nI f = nI (9 * f) from pk_mul 9 f, nI_add]
    have hQ : tv_Q t sc n (9 * f + k) := ⟨f, hf, hR.1, hm, by omega, by omega⟩
    have ht8 := h8 (9 * f + k)
    have hlen := tv_R_len t (9 * f + n f) (n f - (k + 1)) (9 * f + k + 1) (by omega)
    have hs' : tv_Hs st ((tv_R t (9 * f + n f) (9 * f + k + 1)).map (tv_V l t sc a)) := hs
    refine br_f (nI_pos (by omega)) ?_
    rw [he]
    refine ⟨vp_in_nI (by omega) (by omega), nm_r (e' := nI (t (9 * f + k))) (tv_rd rfl (by omega) (hT _)) ?_⟩
    show (_ → _) ∧ (_ → _)
    have hstep := tv_R_step (t := t) (e := 9 * f + n f) (k := 9 * f + k) (by omega)
    rcases tv_loc hR.1.1 (k := k) (by omega) with g | ⟨g, r, hr⟩ | ⟨g, g4, _⟩
    · refine br_f (nI_nlt (b := 4) g (by omega)) ?_
      rw [tv_st_lf g] at hstep
      rw [show nI (t (9 * f + k)) - 4 = nI (t (9 * f + k) - 4) from pk_sub (b := 4) g]
      refine tv_ylet (by omega) ha ⟨vp_in_nI (show (tv_R t (9 * f + n f) (9 * f + k + 1)).length < 10 by omega) (by omega), nm_r (tv_uq (i := (tv_R t (9 * f + n f) (9 * f + k + 1)).length) rfl (by omega) rfl) (nm_r (nI_1 _) (nm_e ?_))⟩
      have h := ih (upd st (tv_R t (9 * f + n f) (9 * f + k + 1)).length (nI (tv_dg a (t (9 * f + k) - 4)))) (by omega) (by
        rw [hstep]
        refine ⟨?_, tv_hs_u _ (by rw [List.length_map]; exact Nat.le_refl _) hs'⟩
        rw [← tv_V_lf (l := l) (sc := sc) g]
        show upd st _ _ (List.map _ _).length = _
        rw [List.length_map, pk_us])
      rw [hstep, List.length_cons] at h
      exact h
    · refine br_t (nI_lt (b := 4) (by omega) (by omega)) (br_t (by rw [g]; rfl) ?_)
      rw [tv_st_un g, hr] at hstep
      have hstep' : tv_R t (9 * f + n f) (9 * f + k) = (9 * f + k) :: r := hstep
      rw [hr, List.length_cons] at hlen
      rw [hr] at hs'
      have hl0 : (tv_R t (9 * f + n f) (9 * f + (k + 1))).length = r.length + 1 := by
        show (tv_R t (9 * f + n f) (9 * f + k + 1)).length = _
        rw [hr, List.length_cons]
      rw [hl0]
      have e1 : nI (r.length + 1) - 1 = nI r.length := nI_pred _
      have hin : vp_in (nI (r.length + 1) - 1) 10 := by rw [e1]; exact vp_in_nI (by omega) (by omega)
      have hv : st r.length = nI (tv_V l t sc a (9 * f + k + 1)) := by
        have := hs'.1
        rw [List.length_map] at this
        exact this
      refine br_f (nI_nlt (b := 1) (by omega) (by omega)) ⟨hin, ?_⟩
      rw [tv_rd e1 (by omega) hv]
      refine tv_ynot hl tv_V_lt ⟨hin, nm_r (tv_uq e1 (by omega) rfl) (nm_e ?_)⟩
      have h := ih (upd st r.length (nI (tv_ng l (tv_V l t sc a (9 * f + k + 1))))) (by omega) (by
        rw [hstep']
        refine ⟨?_, tv_hs_u _ (by rw [List.length_map]; exact Nat.le_refl _) hs'.2⟩
        rw [← tv_V_un hQ g]
        show upd st _ _ (List.map _ _).length = _
        rw [List.length_map, pk_us])
      rw [hstep', List.length_cons] at h
      exact h
    · obtain ⟨r, hr⟩ := hR.1.2 k (by omega) g g4
      refine br_t (nI_lt (b := 4) g4 (by omega)) (br_f (nI_ne0 g (by omega)) ?_)
      rw [tv_st_bi g g4, hr] at hstep
      have hstep' : tv_R t (9 * f + n f) (9 * f + k) = (9 * f + k) :: r := hstep
      rw [hr, List.length_cons, List.length_cons] at hlen
      rw [hr] at hs'
      have hl0 : (tv_R t (9 * f + n f) (9 * f + (k + 1))).length = (r.map (tv_V l t sc a)).length + 2 := by
        show (tv_R t (9 * f + n f) (9 * f + k + 1)).length = _
        rw [hr, List.length_cons, List.length_cons, List.length_map]
      rw [hl0]
      refine tv_ye91 hl hs' tv_V_lt tv_V_lt g g4 (by rw [List.length_map]; omega) ?_
      have h := ih (upd st (r.map (tv_V l t sc a)).length (nI (tv_ap l (t (9 * f + k)) (tv_V l t sc a (9 * f + k + 1)) (tv_V l t sc a (sc (9 * f + k)))))) (by omega) (by
        rw [hstep']
        refine ⟨?_, tv_hs_u _ (Nat.le_refl _) hs'.2.2⟩
        rw [← tv_V_bi hQ g g4]
        exact pk_us)
      rw [hstep', List.length_cons] at h
      rw [List.length_map] at h ⊢
      exact h
theorem tv_yeval {post : Int32 → SY → Prop} {f a : Nat} (hf : f < 2) (ha : a < 81) (ok : tv_Ok l t n aT aZ) (hR : tv_Rd t sc n f)
    (H : ∀ st : Nat → Int32, post (nI (tv_V l t sc a (9 * f))) (nI l, aZ, aT, st)) : wpY_eval post (nI l, aZ, aT, st) (nI f) (nI a) := by
  have hn := tv_n0 hR.1
  have hZ := (ok.2.2.2 f hf).1
  refine ⟨vp_in_nI hf (by omega), nm_r (e' := nI (n f) + (-1)) ?_ ⟨n f + 1, ?_⟩⟩
  · rw [tv_rd rfl (by omega) hZ, sb_m1 hn]
    exact pk_sub (b := 1) hn
  · have h := tv_ye12 (aZ := aZ) ok.1 hf ha ok.2.1 ok.2.2.1 hR H (n f) st (Nat.le_refl _) (by rw [tv_R_end]; trivial)
    rw [tv_R_end] at h
    exact h
theorem tv_cb1 {f : Nat} (hR : tv_Rd t sc n f) : tv_cb t (9 * f) (n f) = 1 := if_pos hR.1.1.2
end
end
section
/-! the reference's questions -/
def tv_Bo (P : Prop) (r : Int32) : Prop := (P ∧ r = 1) ∨ (¬ P ∧ r = 0)
theorem tv_bo_u {P : Prop} {r r' : Int32} (h : tv_Bo P r) (h' : tv_Bo P r') : r' = r := by
  rcases h with ⟨p, rfl⟩ | ⟨p, rfl⟩
  · rcases h' with ⟨_, rfl⟩ | ⟨q, _⟩
    · rfl
    · exact absurd p q
  · rcases h' with ⟨q, _⟩ | ⟨_, rfl⟩
    · exact absurd q p
    · rfl
theorem tv_ext8 : ∀ x, x < 8 → ∀ y, y < 8 → (∀ i, i < 3 → x.testBit i = y.testBit i) → x = y := by decide
theorem tv_or8 : ∀ s, s < 8 → ∀ v, v < 3 → nI s ||| ((1 : Int32) <<< (nI v &&& 31)) = nI (s ||| 2 ^ v) ∧ s ||| 2 ^ v < 8 := by decide +kernel
/-- the values that V has below a -/
def tv_vs (V : Nat → Nat) (a : Nat) : Nat := tv_sp (fun x => decide (∃ b, b < a ∧ V b = x)) 3
theorem tv_vs_bit {V : Nat → Nat} {a x : Nat} (hx : x < 3) : (tv_vs V a).testBit x = decide (∃ b, b < a ∧ V b = x) := tv_sp_bit _ hx
theorem tv_vs_lt (V : Nat → Nat) (a : Nat) : tv_vs V a < 8 := tv_sp_lt _
theorem tv_vs_0 (V : Nat → Nat) : tv_vs V 0 = 0 := by
  refine tv_ext8 _ (tv_vs_lt V 0) 0 (by omega) (fun i hi => ?_)
  rw [tv_vs_bit hi, Nat.zero_testBit]
  exact decide_eq_false (fun ⟨b, hb, _⟩ => absurd hb (Nat.not_lt_zero b))
theorem tv_vs_s {V : Nat → Nat} {a : Nat} (h : V a < 3) : tv_vs V (a + 1) = tv_vs V a ||| 2 ^ V a := by
  refine tv_ext8 _ (tv_vs_lt V _) _ (tv_or8 _ (tv_vs_lt V a) _ h).2 (fun i hi => ?_)
  rw [tv_vs_bit hi, Nat.testBit_or, tv_vs_bit hi, Nat.testBit_two_pow, ← Bool.decide_or]
  refine decide_eq_decide.mpr ⟨?_, ?_⟩
  · rintro ⟨b, hb, e⟩
    by_cases hba : b = a
    · exact Or.inr (by rw [← hba]; exact e)
    · exact Or.inl ⟨b, by omega, e⟩
  · rintro (⟨b, hb, e⟩ | e)
    · exact ⟨b, by omega, e⟩
    · exact ⟨a, by omega, e⟩
theorem tv_vs_4 {V : Nat → Nat} (h : ∀ a, V a < 3) : tv_vs V 81 = 4 ↔ ∀ a, a < 81 → V a = 2 := by
  have t4 : ∀ x, x < 3 → (4 : Nat).testBit x = decide (x = 2) := by decide
  constructor
  · intro e a ha
    have h1 := tv_vs_bit (V := V) (a := 81) (h a)
    rw [e, t4 _ (h a), decide_eq_true (show ∃ b, b < 81 ∧ V b = V a from ⟨a, ha, rfl⟩)] at h1
    exact of_decide_eq_true h1
  · intro H
    refine tv_ext8 _ (tv_vs_lt V _) 4 (by omega) (fun i hi => ?_)
    rw [tv_vs_bit hi, t4 i hi]
    refine decide_eq_decide.mpr ⟨?_, ?_⟩
    · rintro ⟨b, hb, e⟩
      rw [← e]
      exact H b hb
    · intro e
      exact ⟨0, by omega, by rw [e]; exact H 0 (by omega)⟩
theorem tv_81 : (80 : Int32) < nI 81 := nI_lt (a := 80) (by omega) (by omega)
theorem tv_n81 {a : Nat} (h : a < 81) : ¬ (80 : Int32) < nI a := nI_nlt (a := 80) (by omega) (by omega)
section
variable {aT aZ st : Nat → Int32} {t sc n : Nat → Nat} {l : Nat} {post : Int32 → SY → Prop}
theorem tv_yfind2 {f : Nat} {v1 : Int32} (hf : f < 2) (ok : tv_Ok l t n aT aZ) (hR : tv_Rd t sc n f)
    (H : ∀ (r : Int32) (st : Nat → Int32), tv_An (fun a => nI (tv_V l t sc a (9 * f)) = v1) r → post r (nI l, aZ, aT, st)) :
    ∀ (e a : Nat) (st : Nat → Int32), a + e = 81 → (∀ b, b < a → ¬ nI (tv_V l t sc b (9 * f)) = v1) → wY_find_2 post (nI f) v1 (e + 1) (nI a) (nI l) aZ aT st := by
  intro e
  induction e with
  | zero =>
    intro a st ha h
    obtain rfl : a = 81 := by omega
    exact br_t tv_81 (H _ _ (Or.inr ⟨h, rfl⟩))
  | succ e ih =>
    intro a st ha h
    refine br_f (tv_n81 (by omega)) (tv_ycomp hf ok ?_)
    rw [tv_cb1 hR]
    refine br_f (by decide) (tv_yeval hf (by omega) ok hR (fun st => br_c (fun g => H _ _ (Or.inl ⟨a, by omega, g, h, rfl⟩)) (fun g => nm_r (nI_1 a) (ih (a + 1) st (by omega) (fun b hb => ?_)))))
    by_cases hba : b = a
    · rw [hba]
      exact g
    · exact h b (by omega)
theorem tv_yfind {f : Nat} {v1 : Int32} (hf : f < 2) (ok : tv_Ok l t n aT aZ) (hR : tv_Rd t sc n f)
    (H : ∀ (r : Int32) (st : Nat → Int32), tv_An (fun a => nI (tv_V l t sc a (9 * f)) = v1) r → post r (nI l, aZ, aT, st)) : wpY_find post (nI l, aZ, aT, st) (nI f) v1 :=
  ⟨82, tv_yfind2 hf ok hR H 81 0 st (by omega) (fun b hb => absurd hb (Nat.not_lt_zero b))⟩
theorem tv_yfind0 {xl p0 v1 : Int32} (hc : ∀ post' : Int32 → Prop, post' 0 → wpY_complete post' (xl, aZ, aT, st) p0) (h : post (-1) (xl, aZ, aT, st)) : wpY_find post (xl, aZ, aT, st) p0 v1 :=
  ⟨1, br_f (tv_n81 (a := 0) (by omega)) (hc _ (br_t rfl h))⟩
theorem tv_yvals4 {f : Nat} (hf : f < 2) (ok : tv_Ok l t n aT aZ) (hR : tv_Rd t sc n f)
    (H : ∀ st : Nat → Int32, post (nI (tv_vs (fun a => tv_V l t sc a (9 * f)) 81)) (nI l, aZ, aT, st)) :
    ∀ (e a : Nat) (st : Nat → Int32), a + e = 81 → wY_values_4 post (nI f) (e + 1) (nI (tv_vs (fun a => tv_V l t sc a (9 * f)) a)) (nI a) (nI l) aZ aT st := by
  intro e
  induction e with
  | zero =>
    intro a st ha
    obtain rfl : a = 81 := by omega
    exact br_t tv_81 (H _)
  | succ e ih =>
    intro a st ha
    refine br_f (tv_n81 (by omega)) (tv_ycomp hf ok ?_)
    rw [tv_cb1 hR]
    refine br_f (by decide) (tv_yeval hf (by omega) ok hR (fun st => ?_))
    refine nm_r (e' := nI (tv_vs (fun a => tv_V l t sc a (9 * f)) (a + 1))) ?_ (nm_r (nI_1 a) (ih (a + 1) st (by omega)))
    rw [tv_vs_s (V := fun a => tv_V l t sc a (9 * f)) tv_V_lt]
    exact (tv_or8 _ (tv_vs_lt _ a) _ tv_V_lt).1
theorem tv_yvals {f : Nat} (hf : f < 2) (ok : tv_Ok l t n aT aZ) (hR : tv_Rd t sc n f)
    (H : ∀ st : Nat → Int32, post (nI (tv_vs (fun a => tv_V l t sc a (9 * f)) 81)) (nI l, aZ, aT, st)) : wpY_values post (nI l, aZ, aT, st) (nI f) := by
  have h := tv_yvals4 hf ok hR H 81 0 st (by omega)
  rw [tv_vs_0] at h
  exact ⟨82, h⟩
theorem tv_yvals0 {xl p0 : Int32} (hc : ∀ post' : Int32 → Prop, post' 0 → wpY_complete post' (xl, aZ, aT, st) p0) (h : post 0 (xl, aZ, aT, st)) : wpY_values post (xl, aZ, aT, st) p0 :=
  ⟨1, br_f (tv_n81 (a := 0) (by omega)) (hc _ (br_t rfl h))⟩
theorem tv_yvalid {f : Nat} (hf : f < 2) (ok : tv_Ok l t n aT aZ) (hR : tv_Rd t sc n f)
    (H : ∀ (r : Int32) (st : Nat → Int32), tv_Bo (∀ a, a < 81 → tv_V l t sc a (9 * f) = 2) r → post r (nI l, aZ, aT, st)) : wpY_valid post (nI l, aZ, aT, st) (nI f) := by
  unfold wpY_valid
  refine tv_yvals hf ok hR (fun st => ?_)
  have h4 := tv_vs_4 (V := fun a => tv_V l t sc a (9 * f)) (fun a => tv_V_lt)
  have hlt := tv_vs_lt (fun a => tv_V l t sc a (9 * f)) 81
  exact pk_eq (tv_vs (fun a => tv_V l t sc a (9 * f)) 81) 4 (fun e => H _ _ (Or.inl ⟨h4.mp e, rfl⟩)) (fun e => H _ _ (Or.inr ⟨fun z => e (h4.mpr z), rfl⟩))
theorem tv_yvalid0 {xl p0 : Int32} (hc : ∀ post' : Int32 → Prop, post' 0 → wpY_complete post' (xl, aZ, aT, st) p0) (h : post 0 (xl, aZ, aT, st)) : wpY_valid post (xl, aZ, aT, st) p0 := by
  unfold wpY_valid
  exact tv_yvals0 hc (br_f (by decide) h)
theorem tv_yfb2 {v1 v2 : Int32} (ok : tv_Ok l t n aT aZ) (hR0 : tv_Rd t sc n 0) (hR1 : tv_Rd t sc n 1)
    (H : ∀ (r : Int32) (st : Nat → Int32), tv_An (fun a => nI (tv_V l t sc a 0) = v1 ∧ nI (tv_V l t sc a 9) = v2) r → post r (nI l, aZ, aT, st)) :
    ∀ (e a : Nat) (st : Nat → Int32), a + e = 81 → (∀ b, b < a → ¬ (nI (tv_V l t sc b 0) = v1 ∧ nI (tv_V l t sc b 9) = v2)) → wY_findBoth_2 post v1 v2 (e + 1) (nI a) (nI l) aZ aT st := by
  intro e
  induction e with
  | zero =>
    intro a st ha h
    obtain rfl : a = 81 := by omega
    exact br_t tv_81 (H _ _ (Or.inr ⟨h, rfl⟩))
  | succ e ih =>
    intro a st ha h
    have nx : ∀ st, ¬ (nI (tv_V l t sc a 0) = v1 ∧ nI (tv_V l t sc a 9) = v2) → wY_findBoth_2 post v1 v2 (e + 1) (nI (a + 1)) (nI l) aZ aT st := by
      intro st g
      refine ih (a + 1) st (by omega) (fun b hb => ?_)
      by_cases hba : b = a
      · rw [hba]
        exact g
      · exact h b (by omega)
    refine br_f (tv_n81 (by omega)) (tv_ycomp (f := 0) (by omega) ok ?_)
    rw [tv_cb1 hR0]
    refine br_f (by decide) (tv_ycomp (f := 1) (by omega) ok ?_)
    rw [tv_cb1 hR1]
    refine br_f (by decide) (tv_yeval (f := 0) (by omega) (by omega) ok hR0 (fun st => ?_))
    refine br_c (fun g => tv_yeval (f := 1) (by omega) (by omega) ok hR1 (fun st => ?_)) (fun g => nm_r (nI_1 a) (nx st (fun z => g z.1)))
    exact br_c (fun g2 => H _ _ (Or.inl ⟨a, by omega, ⟨g, g2⟩, h, rfl⟩)) (fun g2 => nm_r (nI_1 a) (nx st (fun z => g2 z.2)))
theorem tv_yfb {v1 v2 : Int32} (ok : tv_Ok l t n aT aZ) (hR0 : tv_Rd t sc n 0) (hR1 : tv_Rd t sc n 1)
    (H : ∀ (r : Int32) (st : Nat → Int32), tv_An (fun a => nI (tv_V l t sc a 0) = v1 ∧ nI (tv_V l t sc a 9) = v2) r → post r (nI l, aZ, aT, st)) : wpY_findBoth post (nI l, aZ, aT, st) v1 v2 :=
  ⟨82, tv_yfb2 ok hR0 hR1 H 81 0 st (by omega) (fun b hb => absurd hb (Nat.not_lt_zero b))⟩
theorem tv_cb0 {b m : Nat} (h : ¬ tv_op t b m = 0) : tv_cb t b m = 0 := if_neg h
theorem tv_cb1' {b m : Nat} (h : tv_op t b m = 0) : tv_cb t b m = 1 := if_pos h
theorem tv_yfb0 {xl v1 v2 : Int32} (ok : tv_Ok l t n aT aZ) (hn : ¬ (tv_op t (9 * 0) (n 0) = 0 ∧ tv_op t (9 * 1) (n 1) = 0)) (h : post (-1) (xl, aZ, aT, st)) : wpY_findBoth post (xl, aZ, aT, st) v1 v2 := by
  refine ⟨1, br_f (tv_n81 (a := 0) (by omega)) (tv_ycomp (f := 0) (by omega) ok ?_)⟩
  by_cases h0 : tv_op t (9 * 0) (n 0) = 0
  · rw [tv_cb1' h0]
    refine br_f (by decide) (tv_ycomp (f := 1) (by omega) ok ?_)
    rw [tv_cb0 (fun z => hn ⟨h0, z⟩)]
    exact br_t rfl h
  · rw [tv_cb0 h0]
    exact br_t rfl h
theorem tv_yen0 {xl x : Int32} {m : Nat} (h : post 0 (xl, aZ, aT, st)) : wY_entails_24 post (m + 1) 0 x xl aZ aT st := br_c (fun _ => ⟨narrow_b0, h⟩) (fun _ => br_t rfl ⟨narrow_b0, h⟩)
theorem tv_ybe0 {xl x : Int32} {m : Nat} (h : post 0 (xl, aZ, aT, st)) : wY_below_24 post (m + 1) 0 x xl aZ aT st := br_c (fun _ => ⟨narrow_b0, h⟩) (fun _ => br_t rfl ⟨narrow_b0, h⟩)
theorem tv_yal0 {xl x : Int32} {m : Nat} (h : post 0 (xl, aZ, aT, st)) : wY_alike_24 post (m + 1) 0 x xl aZ aT st := br_c (fun _ => ⟨narrow_b0, h⟩) (fun _ => br_t rfl ⟨narrow_b0, h⟩)
theorem tv_lts {P : Nat → Prop} {a : Nat} (h : ∀ b, b < a → P b) (ha : P a) : ∀ b, b < a + 1 → P b := fun b hb => by
  by_cases e : b = a
  · rw [e]
    exact ha
  · exact h b (by omega)
theorem tv_yen24 (ok : tv_Ok l t n aT aZ) (hR0 : tv_Rd t sc n 0) (hR1 : tv_Rd t sc n 1)
    (H : ∀ (r : Int32) (st : Nat → Int32), tv_Bo (∀ a, a < 81 → tv_V l t sc a 0 = 2 → tv_V l t sc a 9 = 2) r → post r (nI l, aZ, aT, st)) :
    ∀ (e a : Nat) (st : Nat → Int32), a + e = 81 → (∀ b, b < a → tv_V l t sc b 0 = 2 → tv_V l t sc b 9 = 2) → wY_entails_24 post (e + 1) 1 (nI a) (nI l) aZ aT st := by
  intro e
  induction e with
  | zero =>
    intro a st ha h
    obtain rfl : a = 81 := by omega
    exact br_t tv_81 ⟨narrow_b1, H _ _ (Or.inl ⟨h, rfl⟩)⟩
  | succ e ih =>
    intro a st ha h
    have v0 : tv_V l t sc a 0 < 3 := tv_V_lt
    have v9 : tv_V l t sc a 9 < 3 := tv_V_lt
    refine br_f (tv_n81 (by omega)) (br_f (by decide) (tv_yeval (f := 0) (by omega) (by omega) ok hR0 (fun st => ?_)))
    refine pk_eq (tv_V l t sc a 0) 2 (fun g => tv_yeval (f := 1) (by omega) (by omega) ok hR1 (fun st => ?_)) (fun g => nm_r (nI_1 a) (ih (a + 1) st (by omega) (tv_lts h (fun z => absurd z g))))
    exact pk_eq (tv_V l t sc a 9) 2 (fun g2 => nm_r (nI_1 a) (ih (a + 1) st (by omega) (tv_lts h (fun _ => g2)))) (fun g2 => nm_r (nI_1 a) (tv_yen0 (H _ _ (Or.inr ⟨fun z => g2 (z a (by omega) g), rfl⟩))))
theorem tv_ybe24 (ok : tv_Ok l t n aT aZ) (hR0 : tv_Rd t sc n 0) (hR1 : tv_Rd t sc n 1)
    (H : ∀ (r : Int32) (st : Nat → Int32), tv_Bo (∀ a, a < 81 → tv_V l t sc a 0 ≤ tv_V l t sc a 9) r → post r (nI l, aZ, aT, st)) :
    ∀ (e a : Nat) (st : Nat → Int32), a + e = 81 → (∀ b, b < a → tv_V l t sc b 0 ≤ tv_V l t sc b 9) → wY_below_24 post (e + 1) 1 (nI a) (nI l) aZ aT st := by
  intro e
  induction e with
  | zero =>
    intro a st ha h
    obtain rfl : a = 81 := by omega
    exact br_t tv_81 ⟨narrow_b1, H _ _ (Or.inl ⟨h, rfl⟩)⟩
  | succ e ih =>
    intro a st ha h
    have v0 : tv_V l t sc a 0 < 3 := tv_V_lt
    have v9 : tv_V l t sc a 9 < 3 := tv_V_lt
    refine br_f (tv_n81 (by omega)) (br_f (by decide) (tv_yeval (f := 0) (by omega) (by omega) ok hR0 (fun st => ?_)))
    refine tv_yeval (f := 1) (by omega) (by omega) ok hR1 (fun st => ?_)
    exact pk_lt (tv_V l t sc a 9) (tv_V l t sc a 0) (fun g2 => nm_r (nI_1 a) (tv_ybe0 (H _ _ (Or.inr ⟨fun z => absurd (z a (by omega)) (by omega), rfl⟩)))) (fun g2 => nm_r (nI_1 a) (ih (a + 1) st (by omega) (tv_lts h g2)))
theorem tv_yal24 (ok : tv_Ok l t n aT aZ) (hR0 : tv_Rd t sc n 0) (hR1 : tv_Rd t sc n 1)
    (H : ∀ (r : Int32) (st : Nat → Int32), tv_Bo (∀ a, a < 81 → tv_V l t sc a 0 = tv_V l t sc a 9) r → post r (nI l, aZ, aT, st)) :
    ∀ (e a : Nat) (st : Nat → Int32), a + e = 81 → (∀ b, b < a → tv_V l t sc b 0 = tv_V l t sc b 9) → wY_alike_24 post (e + 1) 1 (nI a) (nI l) aZ aT st := by
  intro e
  induction e with
  | zero =>
    intro a st ha h
    obtain rfl : a = 81 := by omega
    exact br_t tv_81 ⟨narrow_b1, H _ _ (Or.inl ⟨h, rfl⟩)⟩
  | succ e ih =>
    intro a st ha h
    have v0 : tv_V l t sc a 0 < 3 := tv_V_lt
    have v9 : tv_V l t sc a 9 < 3 := tv_V_lt
    refine br_f (tv_n81 (by omega)) (br_f (by decide) (tv_yeval (f := 0) (by omega) (by omega) ok hR0 (fun st => ?_)))
    refine tv_yeval (f := 1) (by omega) (by omega) ok hR1 (fun st => ?_)
    exact pk_eq (tv_V l t sc a 0) (tv_V l t sc a 9) (fun g2 => nm_r (nI_1 a) (ih (a + 1) st (by omega) (tv_lts h g2))) (fun g2 => nm_r (nI_1 a) (tv_yal0 (H _ _ (Or.inr ⟨fun z => g2 (z a (by omega)), rfl⟩))))
theorem tv_yen (ok : tv_Ok l t n aT aZ) (hR0 : tv_Rd t sc n 0) (hR1 : tv_Rd t sc n 1)
    (H : ∀ (r : Int32) (st : Nat → Int32), tv_Bo (∀ a, a < 81 → tv_V l t sc a 0 = 2 → tv_V l t sc a 9 = 2) r → post r (nI l, aZ, aT, st)) : wpY_entails post (nI l, aZ, aT, st) := by
  refine tv_ycomp (f := 0) (by omega) ok ?_
  rw [tv_cb1 hR0]
  refine br_f (by decide) (tv_ycomp (f := 1) (by omega) ok ?_)
  rw [tv_cb1 hR1]
  exact br_f (by decide) ⟨82, tv_yen24 ok hR0 hR1 H 81 0 st (by omega) (fun b hb => absurd hb (Nat.not_lt_zero b))⟩
theorem tv_ybe (ok : tv_Ok l t n aT aZ) (hR0 : tv_Rd t sc n 0) (hR1 : tv_Rd t sc n 1)
    (H : ∀ (r : Int32) (st : Nat → Int32), tv_Bo (∀ a, a < 81 → tv_V l t sc a 0 ≤ tv_V l t sc a 9) r → post r (nI l, aZ, aT, st)) : wpY_below post (nI l, aZ, aT, st) := by
  refine tv_ycomp (f := 0) (by omega) ok ?_
  rw [tv_cb1 hR0]
  refine br_f (by decide) (tv_ycomp (f := 1) (by omega) ok ?_)
  rw [tv_cb1 hR1]
  exact br_f (by decide) ⟨82, tv_ybe24 ok hR0 hR1 H 81 0 st (by omega) (fun b hb => absurd hb (Nat.not_lt_zero b))⟩
theorem tv_yal (ok : tv_Ok l t n aT aZ) (hR0 : tv_Rd t sc n 0) (hR1 : tv_Rd t sc n 1)
    (H : ∀ (r : Int32) (st : Nat → Int32), tv_Bo (∀ a, a < 81 → tv_V l t sc a 0 = tv_V l t sc a 9) r → post r (nI l, aZ, aT, st)) : wpY_alike post (nI l, aZ, aT, st) := by
  refine tv_ycomp (f := 0) (by omega) ok ?_
  rw [tv_cb1 hR0]
  refine br_f (by decide) (tv_ycomp (f := 1) (by omega) ok ?_)
  rw [tv_cb1 hR1]
  exact br_f (by decide) ⟨82, tv_yal24 ok hR0 hR1 H 81 0 st (by omega) (fun b hb => absurd hb (Nat.not_lt_zero b))⟩
theorem tv_y3_0 {xl : Int32} (ok : tv_Ok l t n aT aZ) (hn : ¬ (tv_op t (9 * 0) (n 0) = 0 ∧ tv_op t (9 * 1) (n 1) = 0)) (h : post 0 (xl, aZ, aT, st)) : wpY_entails post (xl, aZ, aT, st) ∧ wpY_below post (xl, aZ, aT, st) ∧ wpY_alike post (xl, aZ, aT, st) := by
  by_cases h0 : tv_op t (9 * 0) (n 0) = 0
  · refine ⟨tv_ycomp (f := 0) (by omega) ok ?_, tv_ycomp (f := 0) (by omega) ok ?_, tv_ycomp (f := 0) (by omega) ok ?_⟩
    · rw [tv_cb1' h0]
      refine br_f (by decide) (tv_ycomp (f := 1) (by omega) ok ?_)
      rw [tv_cb0 (fun z => hn ⟨h0, z⟩)]
      exact br_t rfl ⟨1, tv_yen0 h⟩
    · rw [tv_cb1' h0]
      refine br_f (by decide) (tv_ycomp (f := 1) (by omega) ok ?_)
      rw [tv_cb0 (fun z => hn ⟨h0, z⟩)]
      exact br_t rfl ⟨1, tv_ybe0 h⟩
    · rw [tv_cb1' h0]
      refine br_f (by decide) (tv_ycomp (f := 1) (by omega) ok ?_)
      rw [tv_cb0 (fun z => hn ⟨h0, z⟩)]
      exact br_t rfl ⟨1, tv_yal0 h⟩
  · refine ⟨tv_ycomp (f := 0) (by omega) ok ?_, tv_ycomp (f := 0) (by omega) ok ?_, tv_ycomp (f := 0) (by omega) ok ?_⟩
    · rw [tv_cb0 h0]
      exact br_t rfl ⟨1, tv_yen0 h⟩
    · rw [tv_cb0 h0]
      exact br_t rfl ⟨1, tv_ybe0 h⟩
    · rw [tv_cb0 h0]
      exact br_t rfl ⟨1, tv_yal0 h⟩
theorem tv_yfa2 {f i : Nat} (hf : f < 2) (hi : i < 4) (ok : tv_Ok l t n aT aZ) (hR : tv_Rd t sc n f)
    (H : ∀ (r : Int32) (st : Nat → Int32), tv_An (fun a => ¬ tv_V l t sc a (9 * f) = tv_dg a i) r → post r (nI l, aZ, aT, st)) :
    ∀ (e a : Nat) (st : Nat → Int32), a + e = 81 → (∀ b, b < a → ¬ ¬ tv_V l t sc b (9 * f) = tv_dg b i) → wY_findApart_2 post (nI f) (nI i) (e + 1) (nI a) (nI l) aZ aT st := by
  intro e
  induction e with
  | zero =>
    intro a st ha h
    obtain rfl : a = 81 := by omega
    exact br_t tv_81 (H _ _ (Or.inr ⟨h, rfl⟩))
  | succ e ih =>
    intro a st ha h
    have v0 : tv_V l t sc a (9 * f) < 3 := tv_V_lt
    have vd := tv_dg_lt a i
    refine br_f (tv_n81 (by omega)) (tv_ycomp hf ok ?_)
    rw [tv_cb1 hR]
    refine br_f (by decide) (br_f (nI_pos (by omega)) (br_f (nI_nlt (a := 3) (by omega) (by omega)) (tv_yeval hf (by omega) ok hR (fun st => ?_))))
    refine tv_ylet hi (by omega) (pk_eq (tv_V l t sc a (9 * f)) (tv_dg a i) (fun g => nm_r (nI_1 a) (ih (a + 1) st (by omega) (tv_lts h (fun z => z g)))) (fun g => H _ _ (Or.inl ⟨a, by omega, g, h, rfl⟩)))
theorem tv_yfa {f i : Nat} (hf : f < 2) (hi : i < 4) (ok : tv_Ok l t n aT aZ) (hR : tv_Rd t sc n f)
    (H : ∀ (r : Int32) (st : Nat → Int32), tv_An (fun a => ¬ tv_V l t sc a (9 * f) = tv_dg a i) r → post r (nI l, aZ, aT, st)) : wpY_findApart post (nI l, aZ, aT, st) (nI f) (nI i) :=
  ⟨82, tv_yfa2 hf hi ok hR H 81 0 st (by omega) (fun b hb => absurd hb (Nat.not_lt_zero b))⟩
theorem tv_yfa0 {xl p0 v1 : Int32} (hc : ∀ post' : Int32 → Prop, post' 0 → wpY_complete post' (xl, aZ, aT, st) p0) (h : post (-1) (xl, aZ, aT, st)) : wpY_findApart post (xl, aZ, aT, st) p0 v1 :=
  ⟨1, br_f (tv_n81 (a := 0) (by omega)) (hc _ (br_t rfl h))⟩
end
end
section
/-! the class's questions -/
section
variable {t sc n : Nat → Nat} {l : Nat}
theorem tv_pq7 {w v a : Nat} (hw : w < 2) : tv_Pq l t sc (fun _ => 7) (tv_fa w v) (tv_ga w v) a ↔ v.testBit (tv_V l t sc a (9 * w)) = true := by
  have h7 : ∀ i, i < 4 → (7 : Nat).testBit (tv_dg a i) = true := fun i _ => tv_7 _ (tv_dg_lt a i)
  have h0 : (7 : Nat).testBit (tv_V l t sc a 0) = true := tv_7 _ tv_V_lt
  have h9 : (7 : Nat).testBit (tv_V l t sc a 9) = true := tv_7 _ tv_V_lt
  match w, hw with
  | 0, _ => exact ⟨fun h => h.2.1, fun h => ⟨h7, h, h9⟩⟩
  | 1, _ => exact ⟨fun h => h.2.2, fun h => ⟨h7, h0, h⟩⟩
theorem tv_sq7 {w v : Nat} (hw : w < 2) : tv_Sq l t sc (fun _ => 7) (tv_fa w v) (tv_ga w v) ↔ ∃ a, a < 81 ∧ v.testBit (tv_V l t sc a (9 * w)) = true := by
  constructor
  · rintro ⟨a, ha, h⟩
    exact ⟨a, ha, (tv_pq7 hw).mp h⟩
  · rintro ⟨a, ha, h⟩
    exact ⟨a, ha, (tv_pq7 hw).mpr h⟩
theorem tv_fard {w v : Nat} (hw : w < 2) (hR : tv_Rd t sc n w) : (tv_fa w v ≠ 7 → tv_Rd t sc n 0) ∧ (tv_ga w v ≠ 7 → tv_Rd t sc n 1) := by
  match w, hw, hR with
  | 0, _, hR => exact ⟨fun _ => hR, fun h => absurd rfl h⟩
  | 1, _, hR => exact ⟨fun h => absurd rfl h, fun _ => hR⟩
theorem tv_fa8 {w v : Nat} (hv : v < 8) : tv_fa w v < 8 ∧ tv_ga w v < 8 := by
  unfold tv_fa tv_ga
  by_cases h : w = 0
  · rw [if_pos h, if_pos h]
    omega
  · rw [if_neg h, if_neg h]
    omega
theorem tv_o7 {aO : Nat → Int32} (h : ∀ i, i < 4 → aO i = nI 7) : ∀ i, i < 4 → aO i = nI ((fun _ => 7) i) ∧ (fun _ : Nat => 7) i < 8 ∧ (fun _ : Nat => 7) i ≠ 0 := fun i hi => ⟨h i hi, show (7 : Nat) < 8 by decide, show (7 : Nat) ≠ 0 by decide⟩
end
section
variable {xl xc xd xh xf xg : Int32} {aT aZ aK aC aW aD aV aL bD bH bL bT aO aR : Nat → Int32} {t n : Nat → Nat} {l : Nat}
theorem tv_xisv {post : Int32 → Prop} {v : Nat} (hv : v < 3) (h : post 1) : wpX_isValue post (nI v) := br_f (nI_pos (by omega)) (br_f (nI_ge (b := 3) hv (by omega)) h)
theorem tv_xisv0 {post : Int32 → Prop} {p : Int32} (hp : p < 0 ∨ 3 ≤ p) (h : post 0) : wpX_isValue post p := br_c (fun _ => h) (fun g => br_t (hp.resolve_left g) h)
theorem tv_xc1 {post : Int32 → SX → Prop} {f : Nat} (hf : f < 2) (ok : tv_Ok l t n aT aZ) (hc : tv_op t (9 * f) (n f) = 0)
    (H : ∀ (xc : Int32) (aK' aC aW : Nat → Int32), tv_Ou (9 * f) aK aK' → tv_Rd t (tv_sc aK') n f → post 1 (xl, xc, xd, xh, xf, xg, aT, aZ, aK', aC, aW, aD, aV, aL, bD, bH, bL, bT, aO, aR)) : wpX_complete post (xl, xc, xd, xh, xf, xg, aT, aZ, aK, aC, aW, aD, aV, aL, bD, bH, bL, bT, aO, aR) (nI f) := by
  obtain ⟨hZ, hm, hp⟩ := ok.2.2.2 f hf
  refine tv_xcomp hf ok.2.1 ok.2.2.1 hZ hm hp (fun xc aK' aC aW h1 h2 => ?_)
  rw [tv_cb1' hc]
  exact H xc aK' aC aW h1 (h2 hc)
theorem tv_xc0 {post : Int32 → SX → Prop} {f : Nat} (hf : f < 2) (ok : tv_Ok l t n aT aZ) (hc : ¬ tv_op t (9 * f) (n f) = 0)
    (H : ∀ (xc : Int32) (aK aC aW : Nat → Int32), post 0 (xl, xc, xd, xh, xf, xg, aT, aZ, aK, aC, aW, aD, aV, aL, bD, bH, bL, bT, aO, aR)) : wpX_complete post (xl, xc, xd, xh, xf, xg, aT, aZ, aK, aC, aW, aD, aV, aL, bD, bH, bL, bT, aO, aR) (nI f) := by
  obtain ⟨hZ, hm, hp⟩ := ok.2.2.2 f hf
  refine tv_xcomp hf ok.2.1 ok.2.2.1 hZ hm hp (fun xc aK' aC aW h1 h2 => ?_)
  rw [tv_cb0 hc]
  exact H xc aK' aC aW
def tv_Nc (aT aZ : Nat → Int32) (p0 : Int32) : Prop := (∀ (post : Int32 → SX → Prop) (xl xc xd xh xf xg : Int32) (aK aC aW aD aV aL bD bH bL bT aO aR : Nat → Int32), (∀ (xc : Int32) (aK aC aW : Nat → Int32), post 0 (xl, xc, xd, xh, xf, xg, aT, aZ, aK, aC, aW, aD, aV, aL, bD, bH, bL, bT, aO, aR)) → wpX_complete post (xl, xc, xd, xh, xf, xg, aT, aZ, aK, aC, aW, aD, aV, aL, bD, bH, bL, bT, aO, aR) p0) ∧ (∀ (post : Int32 → Prop) (xl : Int32) (st : Nat → Int32), post 0 → wpY_complete post (xl, aZ, aT, st) p0)
theorem tv_split1 (ok : tv_Ok l t n aT aZ) {p0 : Int32} {f : Nat} (hf : f < 2) (e : p0 = nI f) : (∃ f, f < 2 ∧ p0 = nI f ∧ tv_op t (9 * f) (n f) = 0) ∨ tv_Nc aT aZ p0 := by
  by_cases hc : tv_op t (9 * f) (n f) = 0
  · exact Or.inl ⟨f, hf, e, hc⟩
  · refine Or.inr ⟨fun post xl xc xd xh xf xg aK aC aW aD aV aL bD bH bL bT aO aR H => ?_, fun post xl st H => ?_⟩
    · rw [e]
      exact tv_xc0 hf ok hc H
    · rw [e]
      refine tv_ycomp hf ok ?_
      rw [tv_cb0 hc]
      exact H
theorem tv_split (ok : tv_Ok l t n aT aZ) (p0 : Int32) : (∃ f, f < 2 ∧ p0 = nI f ∧ tv_op t (9 * f) (n f) = 0) ∨ tv_Nc aT aZ p0 := by
  by_cases h0 : p0 = 0
  · exact tv_split1 ok (f := 0) (by omega) h0
  · by_cases h1 : p0 = 1
    · exact tv_split1 ok (f := 1) (by omega) h1
    · exact Or.inr ⟨fun post xl xc xd xh xf xg aK aC aW aD aV aL bD bH bL bT aO aR H => tv_xcomp0 h0 h1 (H _ _ _ _), fun post xl st H => tv_ycomp0 h0 h1 H⟩
theorem tv_xfind {post : Int32 → SX → Prop} {f v : Nat} (hf : f < 2) (hv : v < 3) (ok : tv_Ok l t n aT aZ) (hc : tv_op t (9 * f) (n f) = 0)
    (H : ∀ (r xc xd xh xf xg : Int32) (aK aC aW aD aV aL bD bH bL bT aO aR : Nat → Int32), tv_Rd t (tv_sc aK) n f → tv_An (fun a => nI (tv_V l t (tv_sc aK) a (9 * f)) = nI v) r → post r (nI l, xc, xd, xh, xf, xg, aT, aZ, aK, aC, aW, aD, aV, aL, bD, bH, bL, bT, aO, aR)) : wpX_find post (nI l, xc, xd, xh, xf, xg, aT, aZ, aK, aC, aW, aD, aV, aL, bD, bH, bL, bT, aO, aR) (nI f) (nI v) := by
  unfold wpX_find
  refine tv_xisv hv ?_
  refine br_f (by decide) ?_
  refine tv_xc1 hf ok hc (fun xc aK' aC aW _ hR => ?_)
  refine br_f (by decide) ?_
  refine tv_xask1 hf (tv_sh v hv) (fun aO' hO => ?_)
  have h8 := tv_p8 v hv
  refine tv_xleast ok.1 ok.2.1 ok.2.2.1 (tv_hK rfl) (tv_o7 hO) (tv_fa8 h8).1 (tv_fa8 h8).2 (tv_fard hf hR).1 (tv_fard hf hR).2 (fun r xd xh aD aV aL bD bH bL bT aO hA => ?_)
  refine H _ _ _ _ _ _ _ _ _ _ _ _ _ _ _ _ _ _ hR (tv_an_c (fun a _ => ?_) hA)
  have hV : tv_V l t (tv_sc aK') a (9 * f) < 3 := tv_V_lt
  rw [tv_pq7 hf, Nat.testBit_two_pow, decide_eq_true_eq, nI_eq (by omega) (by omega)]
  exact eq_comm
def tv_vp (V : Nat → Nat) (a x : Nat) : Bool := decide (∃ b, b < a ∧ V b = x)
theorem tv_vp_1 {V : Nat → Nat} {a x : Nat} (h : ∃ b, b < a ∧ V b = x) : tv_vp V a x = true := decide_eq_true h
theorem tv_vp_0 {V : Nat → Nat} {a x : Nat} (h : ¬ ∃ b, b < a ∧ V b = x) : tv_vp V a x = false := decide_eq_false h
theorem tv_xvals14 {post : Int32 → SX → Prop} {f : Nat} (hf : f < 2) (ok : tv_Ok l t n aT aZ) (hR : tv_Rd t (tv_sc aK) n f)
    (H : ∀ (xd xh xf xg : Int32) (aD aV aL bD bH bL bT aO : Nat → Int32), post (nI (tv_vs (fun a => tv_V l t (tv_sc aK) a (9 * f)) 81)) (nI l, xc, xd, xh, xf, xg, aT, aZ, aK, aC, aW, aD, aV, aL, bD, bH, bL, bT, aO, aR)) :
    ∀ (e i : Nat) (xd xh xf xg : Int32) (aD aV aL bD bH bL bT aO : Nat → Int32), i + e = 3 → wX_values_14 post (nI f) (e + 1) (nI (tv_sp (tv_vp (fun b => tv_V l t (tv_sc aK) b (9 * f)) 81) i)) (nI i) (nI l) xc xd xh xf xg aT aZ aK aC aW aD aV aL bD bH bL bT aO aR := by
  intro e
  induction e with
  | zero =>
    intro i xd xh xf xg aD aV aL bD bH bL bT aO hi
    obtain rfl : i = 3 := by omega
    exact br_t (nI_le (a := 3) (b := 3) (by omega) (by omega)) (H _ _ _ _ _ _ _ _ _ _ _ _)
  | succ e ih =>
    intro i xd xh xf xg aD aV aL bD bH bL bT aO hi
    have h8 := tv_p8 i (by omega)
    have hsq : tv_Sq l t (tv_sc aK) (fun _ => 7) (tv_fa f (2 ^ i)) (tv_ga f (2 ^ i)) ↔ ∃ b, b < 81 ∧ tv_V l t (tv_sc aK) b (9 * f) = i := by
      rw [tv_sq7 hf]
      refine exists_congr (fun a => and_congr_right (fun _ => ?_))
      rw [Nat.testBit_two_pow, decide_eq_true_eq]
      exact eq_comm
    refine br_f (nI_ge (b := 3) (by omega) (by omega)) ?_
    refine tv_xask1 hf (tv_sh i (by omega)) (fun aO' hO => ?_)
    refine tv_xmeets ok.1 ok.2.1 ok.2.2.1 (tv_hK rfl) (tv_o7 hO) (tv_fa8 h8).1 (tv_fa8 h8).2 (tv_fard hf hR).1 (tv_fard hf hR).2 (fun s xd xh aD aV aL bD bH bL bT => ?_) (fun s xd xh aD aV aL bD bH bL bT => ?_)
    · have h := ih (i + 1) xd xh (nI (tv_fa f (2 ^ i))) (nI (tv_ga f (2 ^ i))) aD aV aL bD bH bL bT aO' (by omega)
      rw [tv_sp_1 (p := tv_vp (fun b => tv_V l t (tv_sc aK) b (9 * f)) 81) (tv_vp_1 (hsq.mp s))] at h
      exact br_f (by decide) (nm_r (tv_or i (by omega) _ (tv_sp_p _ i)) (nm_r (nI_1 i) h))
    · have h := ih (i + 1) xd xh (nI (tv_fa f (2 ^ i))) (nI (tv_ga f (2 ^ i))) aD aV aL bD bH bL bT aO' (by omega)
      rw [tv_sp_0 (p := tv_vp (fun b => tv_V l t (tv_sc aK) b (9 * f)) 81) (tv_vp_0 (fun z => s (hsq.mpr z)))] at h
      exact br_t rfl (nm_r (nI_1 i) h)
theorem tv_xvals {post : Int32 → SX → Prop} {f : Nat} (hf : f < 2) (ok : tv_Ok l t n aT aZ) (hc : tv_op t (9 * f) (n f) = 0)
    (H : ∀ (xc xd xh xf xg : Int32) (aK aC aW aD aV aL bD bH bL bT aO aR : Nat → Int32), tv_Rd t (tv_sc aK) n f → post (nI (tv_vs (fun a => tv_V l t (tv_sc aK) a (9 * f)) 81)) (nI l, xc, xd, xh, xf, xg, aT, aZ, aK, aC, aW, aD, aV, aL, bD, bH, bL, bT, aO, aR)) : wpX_values post (nI l, xc, xd, xh, xf, xg, aT, aZ, aK, aC, aW, aD, aV, aL, bD, bH, bL, bT, aO, aR) (nI f) := by
  unfold wpX_values
  refine tv_xc1 hf ok hc (fun xc aK' aC aW _ hR => ?_)
  exact br_f (by decide) ⟨4, tv_xvals14 hf ok hR (fun xd xh xf xg aD aV aL bD bH bL bT aO => H _ _ _ _ _ _ _ _ _ _ _ _ _ _ _ _ _ hR) 3 0 _ _ _ _ _ _ _ _ _ _ _ _ rfl⟩
theorem tv_b3x : ∀ x, x < 3 → ((3 : Nat).testBit x = true ↔ ¬ x = 2) := by decide
theorem tv_xvalid {post : Int32 → SX → Prop} {f : Nat} (hf : f < 2) (ok : tv_Ok l t n aT aZ) (hc : tv_op t (9 * f) (n f) = 0)
    (H : ∀ (r xc xd xh xf xg : Int32) (aK aC aW aD aV aL bD bH bL bT aO aR : Nat → Int32), tv_Rd t (tv_sc aK) n f → tv_Bo (∀ a, a < 81 → tv_V l t (tv_sc aK) a (9 * f) = 2) r → post r (nI l, xc, xd, xh, xf, xg, aT, aZ, aK, aC, aW, aD, aV, aL, bD, bH, bL, bT, aO, aR)) : wpX_valid post (nI l, xc, xd, xh, xf, xg, aT, aZ, aK, aC, aW, aD, aV, aL, bD, bH, bL, bT, aO, aR) (nI f) := by
  unfold wpX_valid
  refine tv_xc1 hf ok hc (fun xc aK' aC aW _ hR => ?_)
  refine br_f (by decide) ?_
  refine tv_xask1 (v := 3) hf rfl (fun aO' hO => ?_)
  have h8 : 3 < 8 := by omega
  refine tv_xmeets ok.1 ok.2.1 ok.2.2.1 (tv_hK rfl) (tv_o7 hO) (tv_fa8 h8).1 (tv_fa8 h8).2 (tv_fard hf hR).1 (tv_fard hf hR).2 (fun s xd xh aD aV aL bD bH bL bT => ?_) (fun s xd xh aD aV aL bD bH bL bT => ?_)
  · refine br_f (by decide) (H _ _ _ _ _ _ _ _ _ _ _ _ _ _ _ _ _ _ hR (Or.inr ⟨fun z => ?_, rfl⟩))
    obtain ⟨a, ha, h⟩ := (tv_sq7 hf).mp s
    exact (tv_b3x _ tv_V_lt).mp h (z a ha)
  · refine br_t rfl (H _ _ _ _ _ _ _ _ _ _ _ _ _ _ _ _ _ _ hR (Or.inl ⟨fun a ha => ?_, rfl⟩))
    by_cases h : tv_V l t (tv_sc aK') a (9 * f) = 2
    · exact h
    · exact absurd ((tv_sq7 hf).mpr ⟨a, ha, (tv_b3x _ tv_V_lt).mpr h⟩) s
theorem tv_rd_k {f : Nat} {aK aK' : Nat → Int32} (h : tv_Rd t (tv_sc aK) n f) (he : ∀ k, k < n f → aK' (9 * f + k) = aK (9 * f + k)) : tv_Rd t (tv_sc aK') n f :=
  ⟨tv_fm_cong (fun k hk => by unfold tv_sc; rw [he k hk]) h.1, h.2⟩
theorem tv_xboth {post : Int32 → SX → Prop} (ok : tv_Ok l t n aT aZ)
    (H1 : tv_op t (9 * 0) (n 0) = 0 → tv_op t (9 * 1) (n 1) = 0 → ∀ (xc : Int32) (aK aC aW : Nat → Int32), tv_Rd t (tv_sc aK) n 0 → tv_Rd t (tv_sc aK) n 1 → post 1 (xl, xc, xd, xh, xf, xg, aT, aZ, aK, aC, aW, aD, aV, aL, bD, bH, bL, bT, aO, aR))
    (H0 : ¬ (tv_op t (9 * 0) (n 0) = 0 ∧ tv_op t (9 * 1) (n 1) = 0) → ∀ (xc : Int32) (aK aC aW : Nat → Int32), post 0 (xl, xc, xd, xh, xf, xg, aT, aZ, aK, aC, aW, aD, aV, aL, bD, bH, bL, bT, aO, aR)) : wpX_both post (xl, xc, xd, xh, xf, xg, aT, aZ, aK, aC, aW, aD, aV, aL, bD, bH, bL, bT, aO, aR) := by
  unfold wpX_both
  by_cases h0 : tv_op t (9 * 0) (n 0) = 0
  · refine tv_xc1 (f := 0) (by omega) ok h0 (fun xc aK' aC aW _ hR0 => ?_)
    refine br_f (by decide) ?_
    by_cases h1 : tv_op t (9 * 1) (n 1) = 0
    · refine tv_xc1 (f := 1) (by omega) ok h1 (fun xc aK'' aC aW hou hR1 => ?_)
      refine br_f (by decide) (H1 h0 h1 _ _ _ _ (tv_rd_k hR0 (fun k hk => hou _ ?_)) hR1)
      have := hR0.2
      omega
    · refine tv_xc0 (f := 1) (by omega) ok h1 (fun xc aK'' aC aW => ?_)
      exact br_t rfl (H0 (fun z => h1 z.2) _ _ _ _)
  · refine tv_xc0 (f := 0) (by omega) ok h0 (fun xc aK' aC aW => ?_)
    exact br_t rfl (H0 (fun z => h0 z.1) _ _ _ _)
theorem tv_xnev {post : Int32 → SX → Prop} {f g : Nat} {p0 p1 : Int32} (ok : tv_Ok l t n aT aZ) (h0 : p0 = nI f) (h1 : p1 = nI g) (hf : f < 8) (hg : g < 8) (hR0 : tv_Rd t (tv_sc aK) n 0) (hR1 : tv_Rd t (tv_sc aK) n 1)
    (hS : (∃ a, a < 81 ∧ f.testBit (tv_V l t (tv_sc aK) a 0) = true ∧ g.testBit (tv_V l t (tv_sc aK) a 9) = true) → ∀ (xd xh xf xg : Int32) (aD aV aL bD bH bL bT aO : Nat → Int32), post 0 (nI l, xc, xd, xh, xf, xg, aT, aZ, aK, aC, aW, aD, aV, aL, bD, bH, bL, bT, aO, aR))
    (hN : (¬ ∃ a, a < 81 ∧ f.testBit (tv_V l t (tv_sc aK) a 0) = true ∧ g.testBit (tv_V l t (tv_sc aK) a 9) = true) → ∀ (xd xh xf xg : Int32) (aD aV aL bD bH bL bT aO : Nat → Int32), post 1 (nI l, xc, xd, xh, xf, xg, aT, aZ, aK, aC, aW, aD, aV, aL, bD, bH, bL, bT, aO, aR)) : wpX_never post (nI l, xc, xd, xh, xf, xg, aT, aZ, aK, aC, aW, aD, aV, aL, bD, bH, bL, bT, aO, aR) p0 p1 := by
  subst h0 h1
  unfold wpX_never
  refine tv_xask (fun aO' hO => ?_)
  refine tv_xmeets ok.1 ok.2.1 ok.2.2.1 (tv_hK rfl) (tv_o7 hO) hf hg (fun _ => hR0) (fun _ => hR1) (fun s xd xh aD aV aL bD bH bL bT => ?_) (fun s xd xh aD aV aL bD bH bL bT => ?_)
  · obtain ⟨a, ha, _, h⟩ := s
    exact br_f (by decide) (hS ⟨a, ha, h⟩ _ _ _ _ _ _ _ _ _ _ _ _)
  · refine br_t rfl (hN (fun z => ?_) _ _ _ _ _ _ _ _ _ _ _ _)
    obtain ⟨a, ha, h⟩ := z
    exact s ⟨a, ha, fun i _ => tv_7 _ (tv_dg_lt a i), h⟩
theorem tv_tb : ∀ x, x < 3 → ((1 : Nat).testBit x = true ↔ x = 0) ∧ ((2 : Nat).testBit x = true ↔ x = 1) ∧ ((4 : Nat).testBit x = true ↔ x = 2) ∧ ((3 : Nat).testBit x = true ↔ ¬ x = 2) ∧ ((5 : Nat).testBit x = true ↔ ¬ x = 1) ∧ ((6 : Nat).testBit x = true ↔ ¬ x = 0) := by decide
theorem tv_xen {post : Int32 → SX → Prop} (ok : tv_Ok l t n aT aZ)
    (H1 : ∀ (r xc xd xh xf xg : Int32) (aK aC aW aD aV aL bD bH bL bT aO : Nat → Int32), tv_Rd t (tv_sc aK) n 0 → tv_Rd t (tv_sc aK) n 1 → tv_Bo (∀ a, a < 81 → tv_V l t (tv_sc aK) a 0 = 2 → tv_V l t (tv_sc aK) a 9 = 2) r → post r (nI l, xc, xd, xh, xf, xg, aT, aZ, aK, aC, aW, aD, aV, aL, bD, bH, bL, bT, aO, aR))
    (H0 : ¬ (tv_op t (9 * 0) (n 0) = 0 ∧ tv_op t (9 * 1) (n 1) = 0) → ∀ (xc : Int32) (aK aC aW : Nat → Int32), post 0 (nI l, xc, xd, xh, xf, xg, aT, aZ, aK, aC, aW, aD, aV, aL, bD, bH, bL, bT, aO, aR)) : wpX_entails post (nI l, xc, xd, xh, xf, xg, aT, aZ, aK, aC, aW, aD, aV, aL, bD, bH, bL, bT, aO, aR) := by
  unfold wpX_entails
  refine tv_xboth ok (fun h0 h1 xc aK aC aW hR0 hR1 => ?_) (fun h xc aK aC aW => br_t rfl (H0 h _ _ _ _))
  refine br_f (by decide) ?_
  refine tv_xnev (f := 4) (g := 3) ok rfl rfl (by omega) (by omega) hR0 hR1 (fun s xd xh xf xg aD aV aL bD bH bL bT aO => ?_) (fun s xd xh xf xg aD aV aL bD bH bL bT aO => ?_)
  · obtain ⟨a, ha, h, h'⟩ := s
    exact br_t rfl (H1 _ _ _ _ _ _ _ _ _ _ _ _ _ _ _ _ _ hR0 hR1 (Or.inr ⟨fun z => (tv_tb _ tv_V_lt).2.2.2.1.mp h' (z a ha ((tv_tb _ tv_V_lt).2.2.1.mp h)), rfl⟩))
  · refine br_f (by decide) (H1 _ _ _ _ _ _ _ _ _ _ _ _ _ _ _ _ _ hR0 hR1 (Or.inl ⟨fun a ha h => ?_, rfl⟩))
    by_cases e : tv_V l t (tv_sc aK) a 9 = 2
    · exact e
    · exact absurd ⟨a, ha, (tv_tb _ tv_V_lt).2.2.1.mpr h, (tv_tb _ tv_V_lt).2.2.2.1.mpr e⟩ s
theorem tv_xbe {post : Int32 → SX → Prop} (ok : tv_Ok l t n aT aZ)
    (H1 : ∀ (r xc xd xh xf xg : Int32) (aK aC aW aD aV aL bD bH bL bT aO : Nat → Int32), tv_Rd t (tv_sc aK) n 0 → tv_Rd t (tv_sc aK) n 1 → tv_Bo (∀ a, a < 81 → tv_V l t (tv_sc aK) a 0 ≤ tv_V l t (tv_sc aK) a 9) r → post r (nI l, xc, xd, xh, xf, xg, aT, aZ, aK, aC, aW, aD, aV, aL, bD, bH, bL, bT, aO, aR))
    (H0 : ¬ (tv_op t (9 * 0) (n 0) = 0 ∧ tv_op t (9 * 1) (n 1) = 0) → ∀ (xc : Int32) (aK aC aW : Nat → Int32), post 0 (nI l, xc, xd, xh, xf, xg, aT, aZ, aK, aC, aW, aD, aV, aL, bD, bH, bL, bT, aO, aR)) : wpX_below post (nI l, xc, xd, xh, xf, xg, aT, aZ, aK, aC, aW, aD, aV, aL, bD, bH, bL, bT, aO, aR) := by
  unfold wpX_below
  refine tv_xboth ok (fun h0 h1 xc aK aC aW hR0 hR1 => ?_) (fun h xc aK aC aW => br_t rfl (H0 h _ _ _ _))
  have no : ∀ a, a < 81 → tv_V l t (tv_sc aK) a 9 < tv_V l t (tv_sc aK) a 0 → tv_Bo (∀ a, a < 81 → tv_V l t (tv_sc aK) a 0 ≤ tv_V l t (tv_sc aK) a 9) 0 := fun a ha h => Or.inr ⟨fun z => absurd (z a ha) (by omega), rfl⟩
  refine br_f (by decide) ?_
  refine tv_xnev (f := 2) (g := 1) ok rfl rfl (by omega) (by omega) hR0 hR1 (fun s xd xh xf xg aD aV aL bD bH bL bT aO => ?_) (fun s xd xh xf xg aD aV aL bD bH bL bT aO => ?_)
  · obtain ⟨a, ha, h, h'⟩ := s
    have e1 := (tv_tb _ tv_V_lt).2.1.mp h
    have e2 := (tv_tb _ tv_V_lt).1.mp h'
    exact br_t rfl (H1 _ _ _ _ _ _ _ _ _ _ _ _ _ _ _ _ _ hR0 hR1 (no a ha (by omega)))
  refine br_f (by decide) ?_
  refine tv_xnev (f := 4) (g := 3) ok rfl rfl (by omega) (by omega) hR0 hR1 (fun s xd xh xf xg aD aV aL bD bH bL bT aO => ?_) (fun s' xd xh xf xg aD aV aL bD bH bL bT aO => ?_)
  · obtain ⟨a, ha, h, h'⟩ := s
    have e1 := (tv_tb _ tv_V_lt).2.2.1.mp h
    have e2 := (tv_tb _ tv_V_lt).2.2.2.1.mp h'
    have e3 : tv_V l t (tv_sc aK) a 9 < 3 := tv_V_lt
    exact br_t rfl (H1 _ _ _ _ _ _ _ _ _ _ _ _ _ _ _ _ _ hR0 hR1 (no a ha (by omega)))
  · refine br_f (by decide) (H1 _ _ _ _ _ _ _ _ _ _ _ _ _ _ _ _ _ hR0 hR1 (Or.inl ⟨fun a ha => ?_, rfl⟩))
    have v0 : tv_V l t (tv_sc aK) a 0 < 3 := tv_V_lt
    have v9 : tv_V l t (tv_sc aK) a 9 < 3 := tv_V_lt
    by_cases e : tv_V l t (tv_sc aK) a 0 ≤ tv_V l t (tv_sc aK) a 9
    · exact e
    · by_cases e1 : tv_V l t (tv_sc aK) a 0 = 1
      · exact absurd ⟨a, ha, (tv_tb _ tv_V_lt).2.1.mpr e1, (tv_tb _ tv_V_lt).1.mpr (by omega)⟩ s
      · exact absurd ⟨a, ha, (tv_tb _ tv_V_lt).2.2.1.mpr (by omega), (tv_tb _ tv_V_lt).2.2.2.1.mpr (by omega)⟩ s'
theorem tv_xal {post : Int32 → SX → Prop} (ok : tv_Ok l t n aT aZ)
    (H1 : ∀ (r xc xd xh xf xg : Int32) (aK aC aW aD aV aL bD bH bL bT aO : Nat → Int32), tv_Rd t (tv_sc aK) n 0 → tv_Rd t (tv_sc aK) n 1 → tv_Bo (∀ a, a < 81 → tv_V l t (tv_sc aK) a 0 = tv_V l t (tv_sc aK) a 9) r → post r (nI l, xc, xd, xh, xf, xg, aT, aZ, aK, aC, aW, aD, aV, aL, bD, bH, bL, bT, aO, aR))
    (H0 : ¬ (tv_op t (9 * 0) (n 0) = 0 ∧ tv_op t (9 * 1) (n 1) = 0) → ∀ (xc : Int32) (aK aC aW : Nat → Int32), post 0 (nI l, xc, xd, xh, xf, xg, aT, aZ, aK, aC, aW, aD, aV, aL, bD, bH, bL, bT, aO, aR)) : wpX_alike post (nI l, xc, xd, xh, xf, xg, aT, aZ, aK, aC, aW, aD, aV, aL, bD, bH, bL, bT, aO, aR) := by
  unfold wpX_alike
  refine tv_xboth ok (fun h0 h1 xc aK aC aW hR0 hR1 => ?_) (fun h xc aK aC aW => br_t rfl (H0 h _ _ _ _))
  have no : ∀ a, a < 81 → ¬ tv_V l t (tv_sc aK) a 0 = tv_V l t (tv_sc aK) a 9 → tv_Bo (∀ a, a < 81 → tv_V l t (tv_sc aK) a 0 = tv_V l t (tv_sc aK) a 9) 0 := fun a ha h => Or.inr ⟨fun z => h (z a ha), rfl⟩
  refine br_f (by decide) ?_
  refine tv_xnev (f := 1) (g := 6) ok rfl rfl (by omega) (by omega) hR0 hR1 (fun s xd xh xf xg aD aV aL bD bH bL bT aO => ?_) (fun s1 xd xh xf xg aD aV aL bD bH bL bT aO => ?_)
  · obtain ⟨a, ha, h, h'⟩ := s
    have e1 := (tv_tb _ tv_V_lt).1.mp h
    have e2 := (tv_tb _ tv_V_lt).2.2.2.2.2.mp h'
    exact br_t rfl (H1 _ _ _ _ _ _ _ _ _ _ _ _ _ _ _ _ _ hR0 hR1 (no a ha (by omega)))
  refine br_f (by decide) ?_
  refine tv_xnev (f := 2) (g := 5) ok rfl rfl (by omega) (by omega) hR0 hR1 (fun s xd xh xf xg aD aV aL bD bH bL bT aO => ?_) (fun s2 xd xh xf xg aD aV aL bD bH bL bT aO => ?_)
  · obtain ⟨a, ha, h, h'⟩ := s
    have e1 := (tv_tb _ tv_V_lt).2.1.mp h
    have e2 := (tv_tb _ tv_V_lt).2.2.2.2.1.mp h'
    exact br_t rfl (H1 _ _ _ _ _ _ _ _ _ _ _ _ _ _ _ _ _ hR0 hR1 (no a ha (by omega)))
  refine br_f (by decide) ?_
  refine tv_xnev (f := 4) (g := 3) ok rfl rfl (by omega) (by omega) hR0 hR1 (fun s xd xh xf xg aD aV aL bD bH bL bT aO => ?_) (fun s3 xd xh xf xg aD aV aL bD bH bL bT aO => ?_)
  · obtain ⟨a, ha, h, h'⟩ := s
    have e1 := (tv_tb _ tv_V_lt).2.2.1.mp h
    have e2 := (tv_tb _ tv_V_lt).2.2.2.1.mp h'
    exact br_t rfl (H1 _ _ _ _ _ _ _ _ _ _ _ _ _ _ _ _ _ hR0 hR1 (no a ha (by omega)))
  · refine br_f (by decide) (H1 _ _ _ _ _ _ _ _ _ _ _ _ _ _ _ _ _ hR0 hR1 (Or.inl ⟨fun a ha => ?_, rfl⟩))
    have v0 : tv_V l t (tv_sc aK) a 0 < 3 := tv_V_lt
    have v9 : tv_V l t (tv_sc aK) a 9 < 3 := tv_V_lt
    by_cases e : tv_V l t (tv_sc aK) a 0 = tv_V l t (tv_sc aK) a 9
    · exact e
    · by_cases e0 : tv_V l t (tv_sc aK) a 0 = 0
      · exact absurd ⟨a, ha, (tv_tb _ tv_V_lt).1.mpr e0, (tv_tb _ tv_V_lt).2.2.2.2.2.mpr (by omega)⟩ s1
      · by_cases e1 : tv_V l t (tv_sc aK) a 0 = 1
        · exact absurd ⟨a, ha, (tv_tb _ tv_V_lt).2.1.mpr e1, (tv_tb _ tv_V_lt).2.2.2.2.1.mpr (by omega)⟩ s2
        · exact absurd ⟨a, ha, (tv_tb _ tv_V_lt).2.2.1.mpr (by omega), (tv_tb _ tv_V_lt).2.2.2.1.mpr (by omega)⟩ s3
theorem tv_xfb {post : Int32 → SX → Prop} {v w : Nat} (hv : v < 3) (hw : w < 3) (ok : tv_Ok l t n aT aZ)
    (H1 : ∀ (r xc xd xh xf xg : Int32) (aK aC aW aD aV aL bD bH bL bT aO : Nat → Int32), tv_Rd t (tv_sc aK) n 0 → tv_Rd t (tv_sc aK) n 1 → tv_An (fun a => nI (tv_V l t (tv_sc aK) a 0) = nI v ∧ nI (tv_V l t (tv_sc aK) a 9) = nI w) r → post r (nI l, xc, xd, xh, xf, xg, aT, aZ, aK, aC, aW, aD, aV, aL, bD, bH, bL, bT, aO, aR))
    (H0 : ¬ (tv_op t (9 * 0) (n 0) = 0 ∧ tv_op t (9 * 1) (n 1) = 0) → ∀ (xc : Int32) (aK aC aW : Nat → Int32), post (-1) (nI l, xc, xd, xh, xf, xg, aT, aZ, aK, aC, aW, aD, aV, aL, bD, bH, bL, bT, aO, aR)) : wpX_findBoth post (nI l, xc, xd, xh, xf, xg, aT, aZ, aK, aC, aW, aD, aV, aL, bD, bH, bL, bT, aO, aR) (nI v) (nI w) := by
  unfold wpX_findBoth
  refine tv_xisv hv ?_
  refine br_f (by decide) ?_
  refine tv_xisv hw ?_
  refine br_f (by decide) ?_
  refine tv_xboth ok (fun h0 h1 xc aK aC aW hR0 hR1 => ?_) (fun h xc aK aC aW => br_t rfl (H0 h _ _ _ _))
  refine br_f (by decide) ?_
  rw [tv_sh v hv, tv_sh w hw]
  refine tv_xask (fun aO' hO => ?_)
  refine tv_xleast ok.1 ok.2.1 ok.2.2.1 (tv_hK rfl) (tv_o7 hO) (tv_p8 v hv) (tv_p8 w hw) (fun _ => hR0) (fun _ => hR1) (fun r xd xh aD aV aL bD bH bL bT aO hA => ?_)
  refine H1 _ _ _ _ _ _ _ _ _ _ _ _ _ _ _ _ _ hR0 hR1 (tv_an_c (fun a _ => ?_) hA)
  have v0 : tv_V l t (tv_sc aK) a 0 < 3 := tv_V_lt
  have v9 : tv_V l t (tv_sc aK) a 9 < 3 := tv_V_lt
  unfold tv_Pq
  rw [Nat.testBit_two_pow, Nat.testBit_two_pow, decide_eq_true_eq, decide_eq_true_eq, nI_eq (by omega) (by omega), nI_eq (by omega) (by omega)]
  exact ⟨fun h => ⟨h.2.1.symm, h.2.2.symm⟩, fun h => ⟨fun i _ => tv_7 _ (tv_dg_lt a i), h.1.symm, h.2.symm⟩⟩
theorem tv_an_1 {P P' : Nat → Prop} {r r' : Int32} (h : tv_An P r) (h' : tv_An P' r') (hr : r' < 0) : tv_An (fun a => P a ∨ P' a) r := by
  rcases h' with ⟨a, ha, _, _, rfl⟩ | ⟨hn, rfl⟩
  · exact absurd hr (nI_pos (by omega))
  · refine tv_an_c (fun a ha => ⟨Or.inl, fun z => z.resolve_right (hn a ha)⟩) h
theorem tv_an_2 {P P' : Nat → Prop} {r r' : Int32} (h : tv_An P r) (h' : tv_An P' r') (hr : r < 0) : tv_An (fun a => P a ∨ P' a) r' := by
  rcases h with ⟨a, ha, _, _, rfl⟩ | ⟨hn, rfl⟩
  · exact absurd hr (nI_pos (by omega))
  · refine tv_an_c (fun a ha => ⟨Or.inr, fun z => z.resolve_left (hn a ha)⟩) h'
theorem tv_an_3 {P P' : Nat → Prop} {r r' : Int32} (h : tv_An P r) (h' : tv_An P' r') (hr : ¬ r < 0) (hr' : ¬ r' < 0) (hle : r ≤ r') : tv_An (fun a => P a ∨ P' a) r := by
  rcases h with ⟨a, ha, pa, la, rfl⟩ | ⟨hn, rfl⟩
  · rcases h' with ⟨b, hb, pb, lb, rfl⟩ | ⟨hn, rfl⟩
    · rw [nI_leI (by omega) (by omega)] at hle
      exact Or.inl ⟨a, ha, Or.inl pa, fun c hc => fun z => z.elim (la c hc) (lb c (by omega)), rfl⟩
    · exact absurd (by decide) hr'
  · exact absurd (by decide) hr
theorem tv_an_4 {P P' : Nat → Prop} {r r' : Int32} (h : tv_An P r) (h' : tv_An P' r') (hr : ¬ r < 0) (hr' : ¬ r' < 0) (hle : ¬ r ≤ r') : tv_An (fun a => P a ∨ P' a) r' := by
  rcases h with ⟨a, ha, pa, la, rfl⟩ | ⟨hn, rfl⟩
  · rcases h' with ⟨b, hb, pb, lb, rfl⟩ | ⟨hn, rfl⟩
    · rw [nI_leI (by omega) (by omega)] at hle
      exact Or.inl ⟨b, hb, Or.inr pb, fun c hc => fun z => z.elim (la c (by omega)) (lb c hc), rfl⟩
    · exact absurd (by decide) hr'
  · exact absurd (by decide) hr
theorem tv_inv : ∀ v, v < 3 → (7 : Int32) &&& (((1 : Int32) <<< (nI v &&& 31)) ^^^ (-1)) = nI (7 - 2 ^ v) ∧ 7 - 2 ^ v < 8 ∧ ∀ x, x < 3 → ((7 - 2 ^ v).testBit x = true ↔ ¬ x = v) := by decide +kernel
theorem tv_xfa24 {post : Int32 → SX → Prop} {f i : Nat} (hf : f < 2) (hi : i < 4) (ok : tv_Ok l t n aT aZ) (hR : tv_Rd t (tv_sc aK) n f)
    (H : ∀ (r xd xh xf xg : Int32) (aD aV aL bD bH bL bT aO : Nat → Int32), tv_An (fun a => ¬ tv_V l t (tv_sc aK) a (9 * f) = tv_dg a i) r → post r (nI l, xc, xd, xh, xf, xg, aT, aZ, aK, aC, aW, aD, aV, aL, bD, bH, bL, bT, aO, aR)) :
    ∀ (e v : Nat) (r xd xh xf xg : Int32) (aD aV aL bD bH bL bT aO : Nat → Int32), v + e = 3 → tv_An (fun a => ¬ tv_V l t (tv_sc aK) a (9 * f) = tv_dg a i ∧ tv_dg a i < v) r → wX_findApart_24 post (nI f) (nI i) (e + 1) r (nI v) (nI l) xc xd xh xf xg aT aZ aK aC aW aD aV aL bD bH bL bT aO aR := by
  intro e
  induction e with
  | zero =>
    intro v r xd xh xf xg aD aV aL bD bH bL bT aO hv hA
    obtain rfl : v = 3 := by omega
    exact br_t (nI_le (a := 3) (b := 3) (by omega) (by omega)) (H _ _ _ _ _ _ _ _ _ _ _ _ _ (tv_an_c (fun a _ => ⟨fun h => h.1, fun h => ⟨h, tv_dg_lt a i⟩⟩) hA))
  | succ e ih =>
    intro v r xd xh xf xg aD aV aL bD bH bL bT aO hv hA
    have hv3 : v < 3 := by omega
    obtain ⟨q1, q2, q3⟩ := tv_inv v hv3
    have h8 := tv_p8 v hv3
    refine br_f (nI_ge (b := 3) (by omega) (by omega)) ?_
    refine tv_xask1 hf q1 (fun aO' hO => ?_)
    refine ⟨vp_in_nI hi (by omega), nm_r (e' := upd aO' i (nI (2 ^ v))) (tv_up rfl (tv_sh v hv3) (by omega) (by omega)) ?_⟩
    have hO' : ∀ j, j < 4 → upd aO' i (nI (2 ^ v)) j = nI (tv_set (fun _ => 7) i (2 ^ v) j) ∧ tv_set (fun _ => 7) i (2 ^ v) j < 8 ∧ tv_set (fun _ => 7) i (2 ^ v) j ≠ 0 := by
      intro j hj
      unfold tv_set
      by_cases e : j = i
      · rw [if_pos e, e, pk_us]
        exact ⟨rfl, h8, tv_p2n v⟩
      · rw [if_neg e, pk_un e]
        exact ⟨hO j hj, show (7 : Nat) < 8 by decide, show (7 : Nat) ≠ 0 by decide⟩
    refine tv_xleast ok.1 ok.2.1 ok.2.2.1 (tv_hK rfl) hO' (tv_fa8 q2).1 (tv_fa8 q2).2 (tv_fard hf hR).1 (tv_fard hf hR).2 (fun r' xd xh aD aV aL bD bH bL bT aO hB => ?_)
    have hB' : tv_An (fun a => tv_dg a i = v ∧ ¬ tv_V l t (tv_sc aK) a (9 * f) = v) r' := by
      refine tv_an_c (fun a _ => ?_) hB
      have p7 := tv_pq7 (l := l) (t := t) (sc := tv_sc aK) (w := f) (v := 7 - 2 ^ v) (a := a) hf
      rw [q3 _ tv_V_lt] at p7
      constructor
      · intro h
        have h1 := h.1 i hi
        unfold tv_set at h1
        rw [if_pos rfl, Nat.testBit_two_pow, decide_eq_true_eq] at h1
        exact ⟨h1.symm, p7.mp ⟨fun j _ => tv_7 _ (tv_dg_lt a j), h.2⟩⟩
      · intro h
        refine ⟨fun j hj => ?_, (p7.mpr h.2).2⟩
        unfold tv_set
        by_cases e : j = i
        · rw [if_pos e, e, h.1]
          exact Nat.testBit_two_pow_self
        · rw [if_neg e]
          exact tv_7 _ (tv_dg_lt a j)
    have st : ∀ x, tv_An (fun a => (¬ tv_V l t (tv_sc aK) a (9 * f) = tv_dg a i ∧ tv_dg a i < v) ∨ (tv_dg a i = v ∧ ¬ tv_V l t (tv_sc aK) a (9 * f) = v)) x → tv_An (fun a => ¬ tv_V l t (tv_sc aK) a (9 * f) = tv_dg a i ∧ tv_dg a i < v + 1) x := by
      intro x
      refine tv_an_c (fun a _ => ?_)
      constructor
      · rintro (h | h)
        · exact ⟨h.1, by omega⟩
        · rw [h.1]
          exact ⟨h.2, by omega⟩
      · intro h
        by_cases e : tv_dg a i = v
        · rw [e] at h
          exact Or.inr ⟨e, h.1⟩
        · exact Or.inl ⟨h.1, by omega⟩
    refine br_c (fun g => nm_r (nI_1 v) (ih (v + 1) _ _ _ _ _ _ _ _ _ _ _ _ _ (by omega) (st _ (tv_an_1 hA hB' g)))) (fun g => br_c (fun g2 => nm_r (nI_1 v) (ih (v + 1) _ _ _ _ _ _ _ _ _ _ _ _ _ (by omega) (st _ (tv_an_2 hA hB' g2)))) (fun g2 => br_c (fun g3 => nm_r (nI_1 v) (ih (v + 1) _ _ _ _ _ _ _ _ _ _ _ _ _ (by omega) (st _ (tv_an_3 hA hB' g2 g g3)))) (fun g3 => nm_r (nI_1 v) (ih (v + 1) _ _ _ _ _ _ _ _ _ _ _ _ _ (by omega) (st _ (tv_an_4 hA hB' g2 g g3))))))
theorem tv_xfa {post : Int32 → SX → Prop} {f i : Nat} (hf : f < 2) (hi : i < 4) (ok : tv_Ok l t n aT aZ) (hc : tv_op t (9 * f) (n f) = 0)
    (H : ∀ (r xc xd xh xf xg : Int32) (aK aC aW aD aV aL bD bH bL bT aO aR : Nat → Int32), tv_Rd t (tv_sc aK) n f → tv_An (fun a => ¬ tv_V l t (tv_sc aK) a (9 * f) = tv_dg a i) r → post r (nI l, xc, xd, xh, xf, xg, aT, aZ, aK, aC, aW, aD, aV, aL, bD, bH, bL, bT, aO, aR)) : wpX_findApart post (nI l, xc, xd, xh, xf, xg, aT, aZ, aK, aC, aW, aD, aV, aL, bD, bH, bL, bT, aO, aR) (nI f) (nI i) := by
  refine br_f (nI_pos (by omega)) (br_f (nI_ge (b := 4) hi (by omega)) ?_)
  refine tv_xc1 hf ok hc (fun xc aK' aC aW _ hR => ?_)
  exact br_f (by decide) ⟨4, tv_xfa24 hf hi ok hR (fun r xd xh xf xg aD aV aL bD bH bL bT aO hA => H _ _ _ _ _ _ _ _ _ _ _ _ _ _ _ _ _ _ hR hA) 3 0 (-1) _ _ _ _ _ _ _ _ _ _ _ _ rfl (Or.inr ⟨fun a _ h => absurd h.2 (Nat.not_lt_zero _), rfl⟩)⟩
end
end
section
/-! what the last part needs -/
section
variable {t t' sc n : Nat → Nat} {l : Nat} {aT aZ st : Nat → Int32}
theorem tv_op_cong {b : Nat} : ∀ k, (∀ j, j < k → t' (b + j) = t (b + j)) → tv_op t' b k = tv_op t b k := by
  intro k
  induction k with
  | zero => intro _; rfl
  | succ k ih =>
    intro h
    have e := h k (by omega)
    have i := ih (fun j hj => h j (by omega))
    rcases tv_k3 (t (b + k)) with g | g | g
    · rw [tv_op_lf g, tv_op_lf (t := t') (by rw [e]; exact g), i]
    · rw [tv_op_un g, tv_op_un (t := t') (by rw [e]; exact g), i]
    · rw [tv_op_bi g.1 g.2, tv_op_bi (t := t') (by rw [e]; exact g.1) (by rw [e]; exact g.2), i]
theorem tv_rd_ex {f : Nat} (hf : f < 2) (ok : tv_Ok l t n aT aZ) (hc : tv_op t (9 * f) (n f) = 0) : ∃ sc, tv_Rd t sc n f := by
  obtain ⟨_, hm, hp⟩ := ok.2.2.2 f hf
  refine ⟨fun c => (tv_R t (9 * f + n f) (c + 1)).getD 1 0, ⟨⟨hp, hc⟩, fun k hk g g4 => ?_⟩, hm⟩
  rcases tv_loc (t := t) (b := 9 * f) (n := n f) ⟨hp, hc⟩ hk with g' | ⟨g', _⟩ | ⟨_, _, s, r, hr⟩
  · omega
  · omega
  · refine ⟨r, ?_⟩
    dsimp only
    rw [hr]
    rfl
theorem tv_rd_ex2 (ok : tv_Ok l t n aT aZ) (h0 : tv_op t (9 * 0) (n 0) = 0) (h1 : tv_op t (9 * 1) (n 1) = 0) : ∃ sc, tv_Rd t sc n 0 ∧ tv_Rd t sc n 1 := by
  obtain ⟨s0, r0⟩ := tv_rd_ex (f := 0) (by omega) ok h0
  obtain ⟨s1, r1⟩ := tv_rd_ex (f := 1) (by omega) ok h1
  have n0 := r0.2
  refine ⟨fun c => if c < 9 then s0 c else s1 c, ⟨tv_fm_cong (fun k hk => if_pos (by omega)) r0.1, r0.2⟩, ⟨tv_fm_cong (fun k hk => if_neg (by omega)) r1.1, r1.2⟩⟩
theorem tv_nv {v : Int32} {x : Nat} (hv : v < 0 ∨ nI 3 ≤ v) (hx : x < 3) : ¬ nI x = v := by
  rintro rfl
  rcases hv with h | h
  · exact nI_pos (by omega) h
  · exact nI_ge hx (by omega) h
theorem tv_an_no {P : Nat → Prop} {r : Int32} (h : tv_An P r) (hn : ∀ a, a < 81 → ¬ P a) : r = -1 := by
  rcases h with ⟨a, ha, pa, _⟩ | ⟨_, e⟩
  · exact absurd pa (hn a ha)
  · exact e
/-- the reference's find when the value is none -/
theorem tv_yfindv {post : Int32 → SY → Prop} {p0 v1 : Int32} (ok : tv_Ok l t n aT aZ) (hv : v1 < 0 ∨ nI 3 ≤ v1) (H : ∀ st : Nat → Int32, post (-1) (nI l, aZ, aT, st)) : wpY_find post (nI l, aZ, aT, st) p0 v1 := by
  rcases tv_split ok p0 with ⟨f, hf, rfl, hc⟩ | hn
  · obtain ⟨sc, hR⟩ := tv_rd_ex hf ok hc
    refine tv_yfind hf ok hR (fun r st hA => ?_)
    rw [tv_an_no hA (fun a _ => tv_nv hv tv_V_lt)]
    exact H st
  · exact tv_yfind0 (fun post' => hn.2 post' _ _) (H st)
theorem tv_yfbv {post : Int32 → SY → Prop} {v1 v2 : Int32} (ok : tv_Ok l t n aT aZ) (hv : (v1 < 0 ∨ nI 3 ≤ v1) ∨ (v2 < 0 ∨ nI 3 ≤ v2)) (H : ∀ st : Nat → Int32, post (-1) (nI l, aZ, aT, st)) : wpY_findBoth post (nI l, aZ, aT, st) v1 v2 := by
  by_cases h : tv_op t (9 * 0) (n 0) = 0 ∧ tv_op t (9 * 1) (n 1) = 0
  · obtain ⟨sc, hR0, hR1⟩ := tv_rd_ex2 ok h.1 h.2
    refine tv_yfb ok hR0 hR1 (fun r st hA => ?_)
    rw [tv_an_no hA (fun a _ z => hv.elim (fun hv => tv_nv hv tv_V_lt z.1) (fun hv => tv_nv hv tv_V_lt z.2))]
    exact H st
  · exact tv_yfb0 ok h (H st)
theorem tv_yfav {post : Int32 → SY → Prop} {p0 v1 : Int32} (ok : tv_Ok l t n aT aZ) (hv : v1 < 0 ∨ 3 < v1) (H : ∀ st : Nat → Int32, post (-1) (nI l, aZ, aT, st)) : wpY_findApart post (nI l, aZ, aT, st) p0 v1 := by
  rcases tv_split ok p0 with ⟨f, hf, rfl, hc⟩ | hn
  · refine ⟨1, br_f (tv_n81 (a := 0) (by omega)) (tv_ycomp hf ok ?_)⟩
    rw [tv_cb1' hc]
    exact br_f (by decide) (br_c (fun _ => H st) (fun g => br_t (hv.resolve_left g) (H st)))
  · exact tv_yfa0 (fun post' => hn.2 post' _ _) (H st)
theorem tv_yvalv {post : Int32 → SY → Prop} {p0 p1 : Int32} (ok : tv_Ok l t n aT aZ) (hv : (p1 < 0 ∨ 80 < p1) ∨ tv_Nc aT aZ p0) (H : ∀ st : Nat → Int32, post (-1) (nI l, aZ, aT, st)) : wpY_value post (nI l, aZ, aT, st) p0 p1 := by
  rcases tv_split ok p0 with ⟨f, hf, rfl, hc⟩ | hn
  · rcases hv with hv | hv
    · unfold wpY_value
      refine tv_ycomp hf ok ?_
      rw [tv_cb1' hc]
      exact br_f (by decide) (br_c (fun _ => H st) (fun g => br_t (hv.resolve_left g) (H st)))
    · exact hv.2 _ _ _ (br_t rfl (H st))
  · exact hn.2 _ _ _ (br_t rfl (H st))
theorem tv_yval {post : Int32 → SY → Prop} {f a : Nat} (hf : f < 2) (ha : a < 81) (ok : tv_Ok l t n aT aZ) (hR : tv_Rd t sc n f)
    (H : ∀ st : Nat → Int32, post (nI (tv_V l t sc a (9 * f))) (nI l, aZ, aT, st)) : wpY_value post (nI l, aZ, aT, st) (nI f) (nI a) := by
  unfold wpY_value
  refine tv_ycomp hf ok ?_
  rw [tv_cb1 hR]
  refine br_f (by decide) ?_
  refine br_f (nI_pos (by omega)) ?_
  refine br_f (tv_n81 ha) ?_
  exact tv_yeval hf ha ok hR H
/-- one more token -/
theorem tv_ok_feed {f x : Nat} (hf : f < 2) (hx : x < 8) (ok : tv_Ok l t n aT aZ) (h9 : n f < 9) (hc : ¬ tv_op t (9 * f) (n f) = 0) : tv_Ok l (fun j => if j = 9 * f + n f then x else t j) (fun g => if g = f then n f + 1 else n g) (upd aT (9 * f + n f) (nI x)) (upd aZ f (nI (n f + 1))) := by
  obtain ⟨hl, hT, h8, hZ⟩ := ok
  refine ⟨hl, fun j => ?_, fun j => ?_, fun g hg => ?_⟩
  · dsimp only
    by_cases e : j = 9 * f + n f
    · rw [if_pos e, e, pk_us]
    · rw [if_neg e, pk_un e]
      exact hT j
  · dsimp only
    by_cases e : j = 9 * f + n f
    · rw [if_pos e]
      exact hx
    · rw [if_neg e]
      exact h8 j
  · dsimp only
    by_cases e : g = f
    · subst e
      obtain ⟨_, _, hp⟩ := hZ g hg
      rw [if_pos rfl, pk_us]
      refine ⟨rfl, by omega, fun k hk => ?_⟩
      rw [tv_op_cong (t := t) k (fun j hj => if_neg (by omega))]
      by_cases ek : k = n g
      · rw [ek]
        omega
      · exact hp k (by omega)
    · obtain ⟨z1, z2, hp⟩ := hZ g hg
      rw [if_neg e, pk_un e]
      refine ⟨z1, z2, fun k hk => ?_⟩
      rw [tv_op_cong (t := t) k (fun j hj => if_neg (by omega))]
      exact hp k hk
theorem tv_ok_back {f : Nat} (hf : f < 2) (ok : tv_Ok l t n aT aZ) : tv_Ok l t (fun g => if g = f then n f - 1 else n g) aT (upd aZ f (nI (n f - 1))) := by
  obtain ⟨hl, hT, h8, hZ⟩ := ok
  refine ⟨hl, hT, h8, fun g hg => ?_⟩
  dsimp only
  obtain ⟨z1, z2, hp⟩ := hZ g hg
  by_cases e : g = f
  · subst e
    rw [if_pos rfl, pk_us]
    exact ⟨rfl, by omega, fun k hk => hp k (by omega)⟩
  · rw [if_neg e, pk_un e]
    exact ⟨z1, z2, hp⟩
theorem tv_ok_0 {l : Nat} (hl : l < 3) : tv_Ok l (fun _ => 0) (fun _ => 0) (fun _ => 0) (fun _ => 0) :=
  ⟨hl, fun _ => rfl, fun _ => (show 0 < 8 by decide), fun _ _ => ⟨rfl, Nat.zero_le 9, fun k hk => absurd hk (Nat.not_lt_zero k)⟩⟩
end
end
section
/-- the relation: the same logic, tokens and sizes; logic 0 to 2, tokens 0 to 7, sizes up to 9; no beginning of a formula is whole -/
def i_Rel (k : Nat) (u : SX) (v : SY) : Prop := match u, v with
  | (xl, xc, xd, xh, xf, xg, aT, aZ, aK, aC, aW, aD, aV, aL, bD, bH, bL, bT, aO, aR), (yl, yZ, yT, _) => yl = xl ∧ yZ = aZ ∧ yT = aT ∧ ∃ (l : Nat) (t n : Nat → Nat), xl = nI l ∧ tv_Ok l t n aT aZ
theorem i_up {k : Nat} {u : SX} {v : SY} (h : i_Rel k u v) : i_Rel (k + 3) u v := h
theorem tv_rel {k l : Nat} {t n : Nat → Nat} {xc xd xh xf xg : Int32} {aT aZ aK aC aW aD aV aL bD bH bL bT aO aR st : Nat → Int32} (ok : tv_Ok l t n aT aZ) : i_Rel k (nI l, xc, xd, xh, xf, xg, aT, aZ, aK, aC, aW, aD, aV, aL, bD, bH, bL, bT, aO, aR) (nI l, aZ, aT, st) := ⟨rfl, rfl, rfl, l, t, n, rfl, ok⟩
theorem tv_el {P : SX → SY → Prop} (h : ∀ (l : Nat) (t n : Nat → Nat) (xc xd xh xf xg : Int32) (aT aZ aK aC aW aD aV aL bD bH bL bT aO aR st : Nat → Int32), tv_Ok l t n aT aZ → P (nI l, xc, xd, xh, xf, xg, aT, aZ, aK, aC, aW, aD, aV, aL, bD, bH, bL, bT, aO, aR) (nI l, aZ, aT, st)) {k : Nat} {u : SX} {v : SY} (I : i_Rel k u v) : P u v := by
  obtain ⟨xl, xc, xd, xh, xf, xg, aT, aZ, aK, aC, aW, aD, aV, aL, bD, bH, bL, bT, aO, aR⟩ := u
  obtain ⟨yl, yZ, yT, st⟩ := v
  obtain ⟨e1, e2, e3, l, t, n, e4, ok⟩ := I
  subst e4 e1 e2 e3
  exact h l t n _ _ _ _ _ _ _ _ _ _ _ _ _ _ _ _ _ _ _ _ ok
theorem i_vc0 (k0 : Int32) : wpX_init (fun u => wpY_init (fun v => i_Rel 1 u v) k0) k0 := by
  refine br_c (fun h0 => br_c (fun h2 => ?_) (fun h2 => ?_)) (fun h0 => ?_)
  · obtain ⟨l, hl, rfl⟩ := nI_of2 (M := 2) (n := 2) (by decide) (Int32.not_lt.mpr h0) h2
    exact br_t h0 (br_t h2 (tv_rel (tv_ok_0 (by omega))))
  · exact br_t h0 (br_f h2 (tv_rel (l := 2) (tv_ok_0 (by omega))))
  · exact br_f h0 (tv_rel (l := 0) (tv_ok_0 (by omega)))
theorem i_vc_logic {k : Nat} {u : SX} {v : SY} (I : i_Rel k u v) (hk : k + 3 ≤ 1537) : wpX_logic (fun r => wpY_logic (fun r' => r' = r ∧ i_Rel (k + 3) u v) v) u := by
  refine tv_el (P := fun u v => wpX_logic (fun r => wpY_logic (fun r' => r' = r ∧ i_Rel (k + 3) u v) v) u) ?_ I
  intro l t n xc xd xh xf xg aT aZ aK aC aW aD aV aL bD bH bL bT aO aR st ok
  exact ⟨rfl, tv_rel ok⟩
theorem i_vc_setLogic {k : Nat} {u : SX} {v : SY} (I : i_Rel k u v) (hk : k + 3 ≤ 1537) (v1 : Int32) : wpX_setLogic (fun r u' => wpY_setLogic (fun r' v' => r' = r ∧ i_Rel (k + 3) u' v') v v1) u v1 := by
  refine tv_el (P := fun u v => wpX_setLogic (fun r u' => wpY_setLogic (fun r' v' => r' = r ∧ i_Rel (k + 3) u' v') v v1) u v1) ?_ I
  intro l t n xc xd xh xf xg aT aZ aK aC aW aD aV aL bD bH bL bT aO aR st ok
  refine br_c (fun h0 => br_t h0 ⟨rfl, tv_rel ok⟩) (fun h0 => br_c (fun h2 => br_f h0 (br_t h2 ⟨rfl, ?_⟩)) (fun h2 => br_f h0 (br_f h2 ⟨rfl, tv_rel ok⟩)))
  obtain ⟨j, hj, rfl⟩ := nI_of2 (M := 2) (n := 2) (by decide) h0 h2
  exact tv_rel (l := j) ⟨by omega, ok.2⟩
theorem i_vc_feed {k : Nat} {u : SX} {v : SY} (I : i_Rel k u v) (hk : k + 3 ≤ 1537) (v1 : Int32) (v2 : Int32) : wpX_feed (fun r u' => wpY_feed (fun r' v' => r' = r ∧ i_Rel (k + 3) u' v') v v1 v2) u v1 v2 := by
  refine tv_el (P := fun u v => wpX_feed (fun r u' => wpY_feed (fun r' v' => r' = r ∧ i_Rel (k + 3) u' v') v v1 v2) u v1 v2) ?_ I
  intro l t n xc xd xh xf xg aT aZ aK aC aW aD aV aL bD bH bL bT aO aR st ok
  have yf : ∀ (f : Nat) (post : Int32 → SY → Prop), f < 2 → wY_feed_9 post (nI f) v2 (nI l) aZ aT st → wpY_feed post (nI l, aZ, aT, st) (nI f) v2 := by
    intro f post hf h
    match f, hf, h with
    | 0, _, h => exact br_t rfl h
    | 1, _, h => exact br_f (by decide) (br_t rfl h)
  by_cases hF : v1 = 0 ∨ v1 = 1
  · obtain ⟨f, hf, rfl⟩ : ∃ f, f < 2 ∧ v1 = nI f := by
      rcases hF with h | h
      · exact ⟨0, by omega, h⟩
      · exact ⟨1, by omega, h⟩
    obtain ⟨hZ, hm, hp⟩ := ok.2.2.2 f hf
    have hz : aZ (nI f).toNatClampNeg = nI (n f) := tv_rd rfl (by omega) hZ
    have hin : vp_in (nI f) 2 := vp_in_nI hf (by omega)
    unfold wpX_feed
    refine tv_xisf hf ?_
    refine br_f (by decide) ?_
    refine br_c (fun h0 => yf f _ hf (br_t h0 ⟨rfl, tv_rel ok⟩)) (fun h0 => ?_)
    refine br_c (fun h7 => yf f _ hf (br_f h0 (br_t h7 ⟨rfl, tv_rel ok⟩))) (fun h7 => ⟨hin, ?_⟩)
    obtain ⟨x, hx, rfl⟩ := nI_of2 (M := 7) (n := 7) (by decide) h0 (Int32.not_lt.mp h7)
    by_cases hc : tv_op t (9 * f) (n f) = 0
    · have hy : ∀ post : Int32 → SY → Prop, post (-1) (nI l, aZ, aT, st) → wpY_feed post (nI l, aZ, aT, st) (nI f) (nI x) := by
        intro post h
        refine yf f _ hf (br_f h0 (br_f h7 (tv_ycomp hf ok ?_)))
        rw [tv_cb1' hc]
        exact br_f (by decide) h
      refine br_c (fun _ => hy _ ⟨rfl, tv_rel ok⟩) (fun _ => ?_)
      refine tv_xc1 hf ok hc (fun xc aK' aC aW _ _ => ?_)
      exact br_f (by decide) (hy _ ⟨rfl, tv_rel ok⟩)
    · refine pk_le 9 (n f) (fun g => ?_) (fun g => ?_) rfl hz
      · refine yf f _ hf (br_f h0 (br_f h7 (tv_ycomp hf ok ?_)))
        rw [tv_cb0 hc]
        refine br_t rfl ⟨hin, br_f ?_ ⟨rfl, tv_rel ok⟩⟩
        rw [hz]
        exact nI_nlt (b := 9) g (by omega)
      · refine tv_xc0 hf ok hc (fun xc aK aC aW => ?_)
        have e1 : nI f * 9 + aZ (nI f).toNatClampNeg = nI (9 * f + n f) := by
          rw [hz, show nI f * 9 = nI (f * 9) from pk_mul f 9, nI_add, Nat.mul_comm]
        have e2 : 9 * nI f + aZ (nI f).toNatClampNeg = nI (9 * f + n f) := by
          rw [hz, show (9 : Int32) * nI f = nI (9 * f) from pk_mul 9 f, nI_add]
        have e3 : aZ (nI f).toNatClampNeg + 1 = nI (n f + 1) := by
          rw [hz]
          exact nI_1 _
        have e4 : ∀ a : Nat → Int32, upd a f (nI (n f + 1)) (nI f).toNatClampNeg = nI (n f + 1) := fun a => tv_rd rfl (by omega) pk_us
        refine br_t rfl ⟨hin, by rw [e1]; exact vp_in_nI (by omega) (by omega), nm_r (e' := upd aT (9 * f + n f) (nI x)) (tv_up e1 rfl (by omega) (by omega)) ⟨hin, hin, nm_r (e' := upd aZ f (nI (n f + 1))) (tv_up rfl e3 (by omega) (by omega)) ⟨hin, ?_⟩⟩⟩
        refine yf f _ hf (br_f h0 (br_f h7 (tv_ycomp hf ok ?_)))
        rw [tv_cb0 hc]
        refine br_t rfl ⟨hin, br_t (by rw [hz]; exact nI_lt (b := 9) g (by omega)) ⟨hin, by rw [e2]; exact vp_in_nI (by omega) (by omega), nm_r (e' := upd aT (9 * f + n f) (nI x)) (tv_uq e2 (by omega) rfl) ⟨hin, hin, nm_r (e' := upd aZ f (nI (n f + 1))) (tv_uq rfl (by omega) e3) ⟨hin, rfl, ?_⟩⟩⟩⟩
        exact tv_rel (tv_ok_feed hf (by omega) ok g hc)
  · have h0 : ¬ v1 = 0 := fun z => hF (Or.inl z)
    have h1 : ¬ v1 = 1 := fun z => hF (Or.inr z)
    exact br_f h0 (br_f h1 (br_t rfl (br_f h0 (br_f h1 ⟨rfl, tv_rel ok⟩))))
theorem i_vc_back {k : Nat} {u : SX} {v : SY} (I : i_Rel k u v) (hk : k + 3 ≤ 1537) (v1 : Int32) : wpX_back (fun r u' => wpY_back (fun r' v' => r' = r ∧ i_Rel (k + 3) u' v') v v1) u v1 := by
  refine tv_el (P := fun u v => wpX_back (fun r u' => wpY_back (fun r' v' => r' = r ∧ i_Rel (k + 3) u' v') v v1) u v1) ?_ I
  intro l t n xc xd xh xf xg aT aZ aK aC aW aD aV aL bD bH bL bT aO aR st ok
  by_cases hF : v1 = 0 ∨ v1 = 1
  · obtain ⟨f, hf, rfl⟩ : ∃ f, f < 2 ∧ v1 = nI f := by
      rcases hF with h | h
      · exact ⟨0, by omega, h⟩
      · exact ⟨1, by omega, h⟩
    have yf : ∀ (post : Int32 → SY → Prop), wY_back_9 post (nI f) (nI l) aZ aT st → wpY_back post (nI l, aZ, aT, st) (nI f) := by
      intro post h
      match f, hf, h with
      | 0, _, h => exact br_t rfl h
      | 1, _, h => exact br_f (by decide) (br_t rfl h)
    obtain ⟨hZ, hm, hp⟩ := ok.2.2.2 f hf
    have hz : aZ (nI f).toNatClampNeg = nI (n f) := tv_rd rfl (by omega) hZ
    have hin : vp_in (nI f) 2 := vp_in_nI hf (by omega)
    unfold wpX_back
    refine tv_xisf hf ?_
    refine br_f (by decide) ⟨hin, ?_⟩
    refine pk_eq (n f) 0 (fun g => ?_) (fun g => ?_) hz rfl
    · exact yf _ ⟨hin, br_t (by rw [hz, g]; rfl) ⟨rfl, tv_rel ok⟩⟩
    · have e3 : aZ (nI f).toNatClampNeg - 1 = nI (n f - 1) := by
        rw [hz]
        exact pk_sub (b := 1) (by omega)
      have e4 : upd aZ f (nI (n f - 1)) (nI f).toNatClampNeg = nI (n f - 1) := tv_rd rfl (by omega) pk_us
      have e1 : nI f * 9 + upd aZ f (nI (n f - 1)) (nI f).toNatClampNeg = nI (9 * f + (n f - 1)) := by
        rw [e4, show nI f * 9 = nI (f * 9) from pk_mul f 9, nI_add, Nat.mul_comm]
      have e2 : 9 * nI f + upd aZ f (nI (n f - 1)) (nI f).toNatClampNeg = nI (9 * f + (n f - 1)) := by
        rw [e4, show (9 : Int32) * nI f = nI (9 * f) from pk_mul 9 f, nI_add]
      refine ⟨hin, hin, nm_r (e' := upd aZ f (nI (n f - 1))) (tv_up rfl e3 (by omega) (by omega)) ⟨hin, by rw [e1]; exact vp_in_nI (by omega) (by omega), ?_⟩⟩
      refine yf _ ⟨hin, br_f (by rw [hz]; exact nI_ne0 (by omega) (by omega)) ⟨hin, hin, nm_r (e' := upd aZ f (nI (n f - 1))) (tv_uq rfl (by omega) e3) ⟨hin, by rw [e2]; exact vp_in_nI (by omega) (by omega), ?_, ?_⟩⟩⟩
      · rw [e1, e2]
      · exact tv_rel (tv_ok_back hf ok)
  · have h0 : ¬ v1 = 0 := fun z => hF (Or.inl z)
    have h1 : ¬ v1 = 1 := fun z => hF (Or.inr z)
    exact br_f h0 (br_f h1 (br_t rfl (br_f h0 (br_f h1 ⟨rfl, tv_rel ok⟩))))
theorem i_vc_complete {k : Nat} {u : SX} {v : SY} (I : i_Rel k u v) (hk : k + 3 ≤ 1537) (v1 : Int32) : wpX_complete (fun r u' => wpY_complete (fun r' => r' = r ∧ i_Rel (k + 3) u' v) v v1) u v1 := by
  refine tv_el (P := fun u v => wpX_complete (fun r u' => wpY_complete (fun r' => r' = r ∧ i_Rel (k + 3) u' v) v v1) u v1) ?_ I
  intro l t n xc xd xh xf xg aT aZ aK aC aW aD aV aL bD bH bL bT aO aR st ok
  rcases tv_split ok v1 with ⟨f, hf, rfl, hc⟩ | hn
  · refine tv_xc1 hf ok hc (fun xc aK' aC aW _ _ => ?_)
    refine tv_ycomp hf ok ?_
    rw [tv_cb1' hc]
    exact ⟨rfl, tv_rel ok⟩
  · refine hn.1 _ _ _ _ _ _ _ _ _ _ _ _ _ _ _ _ _ _ _ (fun xc aK aC aW => ?_)
    exact hn.2 _ _ _ ⟨rfl, tv_rel ok⟩
theorem i_vc_value {k : Nat} {u : SX} {v : SY} (I : i_Rel k u v) (hk : k + 3 ≤ 1537) (v1 : Int32) (v2 : Int32) : wpX_value (fun r u' => wpY_value (fun r' v' => r' = r ∧ i_Rel (k + 3) u' v') v v1 v2) u v1 v2 := by
  refine tv_el (P := fun u v => wpX_value (fun r u' => wpY_value (fun r' v' => r' = r ∧ i_Rel (k + 3) u' v') v v1 v2) u v1 v2) ?_ I
  intro l t n xc xd xh xf xg aT aZ aK aC aW aD aV aL bD bH bL bT aO aR st ok
  refine br_c (fun h0 => tv_yvalv ok (Or.inl (Or.inl h0)) (fun st => ⟨rfl, tv_rel ok⟩)) (fun h0 => br_c (fun h8 => tv_yvalv ok (Or.inl (Or.inr h8)) (fun st => ⟨rfl, tv_rel ok⟩)) (fun h8 => ?_))
  obtain ⟨a, ha, rfl⟩ := nI_of2 (M := 80) (n := 80) (by decide) h0 (Int32.not_lt.mp h8)
  rcases tv_split ok v1 with ⟨f, hf, rfl, hc⟩ | hn
  · refine tv_xc1 hf ok hc (fun xc aK' aC aW _ hR => ?_)
    have hm := tv_n0 hR.1
    have hZ := (ok.2.2.2 f hf).1
    refine br_f (by decide) ⟨vp_in_nI hf (by omega), nm_r (e' := nI (n f) + (-1)) ?_ ⟨n f + 1, ?_⟩⟩
    · rw [tv_rd rfl (by omega) hZ, sb_m1 hm]
      exact pk_sub (b := 1) hm
    · refine tv_x29 ok.1 hf (by omega) ok.2.1 ok.2.2.1 (tv_hK rfl) hR (fun aR => ?_) (n f) aR (Nat.le_refl _) (fun j h1 h2 => by omega)
      exact tv_yval hf (by omega) ok hR (fun st => ⟨rfl, tv_rel ok⟩)
  · refine hn.1 _ _ _ _ _ _ _ _ _ _ _ _ _ _ _ _ _ _ _ (fun xc aK aC aW => ?_)
    exact br_t rfl (tv_yvalv ok (Or.inr hn) (fun st => ⟨rfl, tv_rel ok⟩))
theorem i_vc_find {k : Nat} {u : SX} {v : SY} (I : i_Rel k u v) (hk : k + 3 ≤ 1537) (v1 : Int32) (v2 : Int32) : wpX_find (fun r u' => wpY_find (fun r' v' => r' = r ∧ i_Rel (k + 3) u' v') v v1 v2) u v1 v2 := by
  refine tv_el (P := fun u v => wpX_find (fun r u' => wpY_find (fun r' v' => r' = r ∧ i_Rel (k + 3) u' v') v v1 v2) u v1 v2) ?_ I
  intro l t n xc xd xh xf xg aT aZ aK aC aW aD aV aL bD bH bL bT aO aR st ok
  rcases pk_ix v2 (n := 3) (by omega) with h | h | ⟨x, hx, rfl⟩
  · unfold wpX_find
    refine tv_xisv0 (Or.inl h) ?_
    exact br_t rfl (tv_yfindv ok (Or.inl h) (fun st => ⟨rfl, tv_rel ok⟩))
  · unfold wpX_find
    refine tv_xisv0 (Or.inr h) ?_
    exact br_t rfl (tv_yfindv ok (Or.inr h) (fun st => ⟨rfl, tv_rel ok⟩))
  · rcases tv_split ok v1 with ⟨f, hf, rfl, hc⟩ | hn
    · refine tv_xfind hf hx ok hc (fun r xc xd xh xf xg aK aC aW aD aV aL bD bH bL bT aO aR hR hA => ?_)
      exact tv_yfind hf ok hR (fun r' st hB => ⟨tv_an_u hA hB, tv_rel ok⟩)
    · unfold wpX_find
      refine tv_xisv hx ?_
      refine br_f (by decide) ?_
      refine hn.1 _ _ _ _ _ _ _ _ _ _ _ _ _ _ _ _ _ _ _ (fun xc aK aC aW => ?_)
      exact br_t rfl (tv_yfind0 (fun post' => hn.2 post' _ _) ⟨rfl, tv_rel ok⟩)
theorem i_vc_values {k : Nat} {u : SX} {v : SY} (I : i_Rel k u v) (hk : k + 3 ≤ 1537) (v1 : Int32) : wpX_values (fun r u' => wpY_values (fun r' v' => r' = r ∧ i_Rel (k + 3) u' v') v v1) u v1 := by
  refine tv_el (P := fun u v => wpX_values (fun r u' => wpY_values (fun r' v' => r' = r ∧ i_Rel (k + 3) u' v') v v1) u v1) ?_ I
  intro l t n xc xd xh xf xg aT aZ aK aC aW aD aV aL bD bH bL bT aO aR st ok
  rcases tv_split ok v1 with ⟨f, hf, rfl, hc⟩ | hn
  · refine tv_xvals hf ok hc (fun xc xd xh xf xg aK aC aW aD aV aL bD bH bL bT aO aR hR => ?_)
    exact tv_yvals hf ok hR (fun st => ⟨rfl, tv_rel ok⟩)
  · unfold wpX_values
    refine hn.1 _ _ _ _ _ _ _ _ _ _ _ _ _ _ _ _ _ _ _ (fun xc aK aC aW => ?_)
    exact br_t rfl (tv_yvals0 (fun post' => hn.2 post' _ _) ⟨rfl, tv_rel ok⟩)
theorem i_vc_valid {k : Nat} {u : SX} {v : SY} (I : i_Rel k u v) (hk : k + 3 ≤ 1537) (v1 : Int32) : wpX_valid (fun r u' => wpY_valid (fun r' v' => r' = r ∧ i_Rel (k + 3) u' v') v v1) u v1 := by
  refine tv_el (P := fun u v => wpX_valid (fun r u' => wpY_valid (fun r' v' => r' = r ∧ i_Rel (k + 3) u' v') v v1) u v1) ?_ I
  intro l t n xc xd xh xf xg aT aZ aK aC aW aD aV aL bD bH bL bT aO aR st ok
  rcases tv_split ok v1 with ⟨f, hf, rfl, hc⟩ | hn
  · refine tv_xvalid hf ok hc (fun r xc xd xh xf xg aK aC aW aD aV aL bD bH bL bT aO aR hR hB => ?_)
    exact tv_yvalid hf ok hR (fun r' st hB' => ⟨tv_bo_u hB hB', tv_rel ok⟩)
  · unfold wpX_valid
    refine hn.1 _ _ _ _ _ _ _ _ _ _ _ _ _ _ _ _ _ _ _ (fun xc aK aC aW => ?_)
    exact br_t rfl (tv_yvalid0 (fun post' => hn.2 post' _ _) ⟨rfl, tv_rel ok⟩)
theorem i_vc_findBoth {k : Nat} {u : SX} {v : SY} (I : i_Rel k u v) (hk : k + 3 ≤ 1537) (v1 : Int32) (v2 : Int32) : wpX_findBoth (fun r u' => wpY_findBoth (fun r' v' => r' = r ∧ i_Rel (k + 3) u' v') v v1 v2) u v1 v2 := by
  refine tv_el (P := fun u v => wpX_findBoth (fun r u' => wpY_findBoth (fun r' v' => r' = r ∧ i_Rel (k + 3) u' v') v v1 v2) u v1 v2) ?_ I
  intro l t n xc xd xh xf xg aT aZ aK aC aW aD aV aL bD bH bL bT aO aR st ok
  rcases pk_ix v1 (n := 3) (by omega) with h | h | ⟨x, hx, rfl⟩
  · unfold wpX_findBoth
    refine tv_xisv0 (Or.inl h) ?_
    exact br_t rfl (tv_yfbv ok (Or.inl (Or.inl h)) (fun st => ⟨rfl, tv_rel ok⟩))
  · unfold wpX_findBoth
    refine tv_xisv0 (Or.inr h) ?_
    exact br_t rfl (tv_yfbv ok (Or.inl (Or.inr h)) (fun st => ⟨rfl, tv_rel ok⟩))
  · rcases pk_ix v2 (n := 3) (by omega) with h | h | ⟨y, hy, rfl⟩
    · unfold wpX_findBoth
      refine tv_xisv hx ?_
      refine br_f (by decide) ?_
      refine tv_xisv0 (Or.inl h) ?_
      exact br_t rfl (tv_yfbv ok (Or.inr (Or.inl h)) (fun st => ⟨rfl, tv_rel ok⟩))
    · unfold wpX_findBoth
      refine tv_xisv hx ?_
      refine br_f (by decide) ?_
      refine tv_xisv0 (Or.inr h) ?_
      exact br_t rfl (tv_yfbv ok (Or.inr (Or.inr h)) (fun st => ⟨rfl, tv_rel ok⟩))
    · refine tv_xfb hx hy ok (fun r xc xd xh xf xg aK aC aW aD aV aL bD bH bL bT aO hR0 hR1 hA => ?_) (fun hn xc aK aC aW => ?_)
      · exact tv_yfb ok hR0 hR1 (fun r' st hB => ⟨tv_an_u hA hB, tv_rel ok⟩)
      · exact tv_yfb0 ok hn ⟨rfl, tv_rel ok⟩
theorem i_vc_entails {k : Nat} {u : SX} {v : SY} (I : i_Rel k u v) (hk : k + 3 ≤ 1537) : wpX_entails (fun r u' => wpY_entails (fun r' v' => r' = r ∧ i_Rel (k + 3) u' v') v) u := by
  refine tv_el (P := fun u v => wpX_entails (fun r u' => wpY_entails (fun r' v' => r' = r ∧ i_Rel (k + 3) u' v') v) u) ?_ I
  intro l t n xc xd xh xf xg aT aZ aK aC aW aD aV aL bD bH bL bT aO aR st ok
  refine tv_xen ok (fun r xc xd xh xf xg aK aC aW aD aV aL bD bH bL bT aO hR0 hR1 hB => ?_) (fun hn xc aK aC aW => ?_)
  · exact tv_yen ok hR0 hR1 (fun r' st hB' => ⟨tv_bo_u hB hB', tv_rel ok⟩)
  · exact (tv_y3_0 ok hn ⟨rfl, tv_rel ok⟩).1
theorem i_vc_below {k : Nat} {u : SX} {v : SY} (I : i_Rel k u v) (hk : k + 3 ≤ 1537) : wpX_below (fun r u' => wpY_below (fun r' v' => r' = r ∧ i_Rel (k + 3) u' v') v) u := by
  refine tv_el (P := fun u v => wpX_below (fun r u' => wpY_below (fun r' v' => r' = r ∧ i_Rel (k + 3) u' v') v) u) ?_ I
  intro l t n xc xd xh xf xg aT aZ aK aC aW aD aV aL bD bH bL bT aO aR st ok
  refine tv_xbe ok (fun r xc xd xh xf xg aK aC aW aD aV aL bD bH bL bT aO hR0 hR1 hB => ?_) (fun hn xc aK aC aW => ?_)
  · exact tv_ybe ok hR0 hR1 (fun r' st hB' => ⟨tv_bo_u hB hB', tv_rel ok⟩)
  · exact (tv_y3_0 ok hn ⟨rfl, tv_rel ok⟩).2.1
theorem i_vc_alike {k : Nat} {u : SX} {v : SY} (I : i_Rel k u v) (hk : k + 3 ≤ 1537) : wpX_alike (fun r u' => wpY_alike (fun r' v' => r' = r ∧ i_Rel (k + 3) u' v') v) u := by
  refine tv_el (P := fun u v => wpX_alike (fun r u' => wpY_alike (fun r' v' => r' = r ∧ i_Rel (k + 3) u' v') v) u) ?_ I
  intro l t n xc xd xh xf xg aT aZ aK aC aW aD aV aL bD bH bL bT aO aR st ok
  refine tv_xal ok (fun r xc xd xh xf xg aK aC aW aD aV aL bD bH bL bT aO hR0 hR1 hB => ?_) (fun hn xc aK aC aW => ?_)
  · exact tv_yal ok hR0 hR1 (fun r' st hB' => ⟨tv_bo_u hB hB', tv_rel ok⟩)
  · exact (tv_y3_0 ok hn ⟨rfl, tv_rel ok⟩).2.2
theorem i_vc_findApart {k : Nat} {u : SX} {v : SY} (I : i_Rel k u v) (hk : k + 3 ≤ 1537) (v1 : Int32) (v2 : Int32) : wpX_findApart (fun r u' => wpY_findApart (fun r' v' => r' = r ∧ i_Rel (k + 3) u' v') v v1 v2) u v1 v2 := by
  refine tv_el (P := fun u v => wpX_findApart (fun r u' => wpY_findApart (fun r' v' => r' = r ∧ i_Rel (k + 3) u' v') v v1 v2) u v1 v2) ?_ I
  intro l t n xc xd xh xf xg aT aZ aK aC aW aD aV aL bD bH bL bT aO aR st ok
  rcases pk_ix v2 (n := 4) (by omega) with h | h | ⟨i, hi, rfl⟩
  · exact br_t h (tv_yfav ok (Or.inl h) (fun st => ⟨rfl, tv_rel ok⟩))
  · have h3 : (3 : Int32) < v2 := Int32.lt_of_lt_of_le (show (3 : Int32) < nI 4 by decide) h
    have h0 : ¬ v2 < 0 := fun z => absurd (Int32.lt_trans z (show (0 : Int32) < 3 by decide)) (fun y => Int32.lt_irrefl (Int32.lt_trans y h3))
    exact br_f h0 (br_t h (tv_yfav ok (Or.inr h3) (fun st => ⟨rfl, tv_rel ok⟩)))
  · rcases tv_split ok v1 with ⟨f, hf, rfl, hc⟩ | hn
    · refine tv_xfa hf hi ok hc (fun r xc xd xh xf xg aK aC aW aD aV aL bD bH bL bT aO aR hR hA => ?_)
      exact tv_yfa hf hi ok hR (fun r' st hB => ⟨tv_an_u hA hB, tv_rel ok⟩)
    · refine br_f (nI_pos (by omega)) (br_f (nI_ge (b := 4) hi (by omega)) ?_)
      refine hn.1 _ _ _ _ _ _ _ _ _ _ _ _ _ _ _ _ _ _ _ (fun xc aK aC aW => ?_)
      exact br_t rfl (tv_yfa0 (fun post' => hn.2 post' _ _) ⟨rfl, tv_rel ok⟩)
end
