section
/-! rows pasted from the kit's rows to paste (PURE-ROWS, BITS): starting text -/
theorem pk_us {f : Nat → Int32} {k : Nat} {x : Int32} : upd f k x k = x := if_pos rfl
theorem pk_un {f : Nat → Int32} {k j : Nat} {x : Int32} (h : j ≠ k) : upd f k x j = f j := if_neg h
theorem pk_sub {a b : Nat} (h : b ≤ a) : nI a - nI b = nI (a - b) := by
  obtain ⟨c, rfl⟩ : ∃ c, a = c + b := ⟨a - b, by omega⟩
  rw [← nI_add, Int32.add_sub_cancel, Nat.add_sub_cancel]
theorem pk_m1 (n : Nat) : nI (n + 1) + (-1) = nI n := by
  rw [← nI_1, Int32.add_assoc, show (1 : Int32) + (-1) = 0 from rfl, Int32.add_zero]
theorem pk_mul (a b : Nat) : nI a * nI b = nI (a * b) := (Int32.ofNat_mul a b).symm
theorem pk_div {a d : Nat} (ha : a < 2 ^ 31) (h0 : 0 < d) (hd : d < 2 ^ 31) : nI a / nI d = nI (a / d) := by
  apply Int32.toInt_inj.mp
  rw [lg_idiv_nonneg (by rw [nI_toInt ha]; omega) (by rw [nI_toInt hd]; omega), nI_toInt ha, nI_toInt hd, nI_toInt (Nat.lt_of_le_of_lt (Nat.div_le_self a d) ha)]
  first | rfl | exact (Int.natCast_ediv _ _).symm
theorem pk_rem {a d : Nat} (ha : a < 2 ^ 31) (h0 : 0 < d) (hd : d < 2 ^ 31) : nI a - nI a / nI d * nI d = nI (a % d) := by
  rw [pk_div ha h0 hd, pk_mul, pk_sub (Nat.div_mul_le_self a d)]
  exact congrArg nI (by have := Nat.div_add_mod' a d; omega)
theorem pk_sub_toInt {a b : Nat} (ha : a < 2 ^ 30) (hb : b < 2 ^ 30) : (nI a - nI b).toInt = (a : Int) - b := by
  rw [Int32.toInt_sub, nI_toInt (by omega), nI_toInt (by omega)]
  exact Int.bmod_eq_of_le (by omega) (by omega)
theorem pk_sneg {a b : Nat} (hb : b < 2 ^ 30) (h : a < b) : nI a - nI b < 0 := by
  rw [Int32.lt_iff_toInt_lt, pk_sub_toInt (by omega) hb, show (0 : Int32).toInt = 0 from by decide]
  omega
theorem pk_ix (x : Int32) {n : Nat} (hn : n < 2 ^ 31) : x < 0 ∨ nI n ≤ x ∨ ∃ j : Nat, j < n ∧ x = nI j := by
  by_cases h : x < 0
  · exact Or.inl h
  · obtain ⟨j, hj, rfl⟩ := nI_of h
    by_cases h2 : j < n
    · exact Or.inr (Or.inr ⟨j, h2, rfl⟩)
    · exact Or.inr (Or.inl (nI_le (by omega) hj))
theorem pk_le {x y : Int32} {A B : Prop} (a b : Nat) (f : a ≤ b → A) (g : b < a → B) (hx : x = nI a := by rfl) (hy : y = nI b := by rfl) (ha : a < 2 ^ 31 := by omega) (hb : b < 2 ^ 31 := by omega) : (x ≤ y → A) ∧ (¬ x ≤ y → B) := by
  subst hx hy
  rw [nI_leI ha hb]
  exact ⟨f, fun z => g (by omega)⟩
theorem pk_lt {x y : Int32} {A B : Prop} (a b : Nat) (f : a < b → A) (g : b ≤ a → B) (hx : x = nI a := by rfl) (hy : y = nI b := by rfl) (ha : a < 2 ^ 31 := by omega) (hb : b < 2 ^ 31 := by omega) : (x < y → A) ∧ (¬ x < y → B) := by
  subst hx hy
  rw [nI_ltI ha hb]
  exact ⟨f, fun z => g (by omega)⟩
theorem pk_eq {x y : Int32} {A B : Prop} (a b : Nat) (f : a = b → A) (g : a ≠ b → B) (hx : x = nI a := by rfl) (hy : y = nI b := by rfl) (ha : a < 2 ^ 31 := by omega) (hb : b < 2 ^ 31 := by omega) : (x = y → A) ∧ (¬ x = y → B) := by
  subst hx hy
  rw [nI_eq ha hb]
  exact ⟨f, g⟩
theorem pk_in {x : Int32} (n N : Nat) (h : n < N) (hx : x = nI n := by rfl) (hN : N < 2 ^ 31 := by omega) : vp_in x N := by
  subst hx
  exact vp_in_nI h hN
theorem pk_cl {x : Int32} (n : Nat) (hx : x = nI n := by rfl) (h : n < 2 ^ 31 := by omega) : x.toNatClampNeg = n := by
  subst hx
  exact nI_clamp h
theorem pk_tn {n : Nat} (h : n < 2 ^ 32) : (nI n).toBitVec.toNat = n := Nat.mod_eq_of_lt h
theorem pk_and (x : Int32) {m : Int32} (k : Nat) (hm : m.toBitVec.toNat = 2 ^ k - 1) : x &&& m = nI (x.toBitVec.toNat % 2 ^ k) := by
  apply Int32.toBitVec_inj.mp
  apply BitVec.eq_of_toNat_eq
  rw [Int32.toBitVec_and, BitVec.toNat_and, hm, Nat.and_two_pow_sub_one_eq_mod]
  show _ = (BitVec.ofNat 32 _).toNat
  rw [BitVec.toNat_ofNat]
  exact (Nat.mod_eq_of_lt (Nat.lt_of_le_of_lt (Nat.mod_le _ _) x.toBitVec.isLt)).symm
theorem pk_andN {n : Nat} (h : n < 2 ^ 32) {m : Int32} (k : Nat) (hm : m.toBitVec.toNat = 2 ^ k - 1) : nI n &&& m = nI (n % 2 ^ k) := by
  rw [pk_and _ k hm, pk_tn h]
theorem pk_shr (a s : Int32) (k : Nat) (hs : (s.toBitVec.smod 32).toNat = k) : (a >>> s).toInt = a.toInt >>> k := by
  show (a.toBitVec.sshiftRight (s.toBitVec.smod 32).toNat).toInt = _
  rw [hs, BitVec.toInt_sshiftRight]
  rfl
theorem pk_shrN {n : Nat} (h : n < 2 ^ 31) (s : Int32) (k : Nat) (hs : (s.toBitVec.smod 32).toNat = k) : nI n >>> s = nI (n / 2 ^ k) := by
  apply Int32.toInt_inj.mp
  have h2 : n / 2 ^ k ≤ n := Nat.div_le_self _ _
  rw [pk_shr _ _ k hs, nI_toInt h, nI_toInt (by omega), Int.shiftRight_eq_div_pow]
  rfl
theorem nx_xor (a b : Nat) : nI a ^^^ nI b = nI (a ^^^ b) := by
  apply Int32.toBitVec_inj.1
  show BitVec.ofNat 32 a ^^^ BitVec.ofNat 32 b = BitVec.ofNat 32 (a ^^^ b)
  apply BitVec.eq_of_getLsbD_eq
  intro i hi
  simp [hi]
end
section
/-! small helpers -/
theorem cs_inj {p q : Nat} (hp : p < 12) (hq : q < 12) (h : nI p = nI q) : p = q := (nI_eq (by omega) (by omega)).mp h
theorem cs_nm1 {p : Nat} (hp : p < 2 ^ 31) : nI p ≠ -1 := by
  intro h
  have a := nI_pos hp
  rw [h] at a
  exact a (by decide)
theorem cs_uu (a : Nat → Int32) (k : Nat) (x y : Int32) : upd (upd a k x) k y = upd a k y := by
  funext j
  by_cases h : j = k
  · subst h
    rw [pk_us, pk_us]
  · rw [pk_un h, pk_un h, pk_un h]
theorem cs_ue (a : Nat → Int32) (k : Nat) (x : Int32) (h : a k = x) : upd a k x = a := by
  funext j
  by_cases e : j = k
  · subst e
    rw [pk_us, h]
  · rw [pk_un e]
theorem cs_neg {x : Int32} (h : x = -1 ∨ ∃ p, p < 12 ∧ x = nI p) : x < 0 ↔ x = -1 := by
  rcases h with h | ⟨p, hp, h⟩
  · rw [h]
    exact ⟨fun _ => rfl, fun _ => by decide⟩
  · rw [h]
    exact ⟨fun a => absurd a (nI_pos (by omega)), fun a => absurd a (cs_nm1 (by omega))⟩
theorem cs_nng {x : Int32} (h : x = -1 ∨ ∃ p, p < 12 ∧ x = nI p) : 0 ≤ x ↔ x ≠ -1 := by
  rcases h with h | ⟨p, hp, h⟩
  · rw [h]
    exact ⟨fun a => absurd a (by decide), fun a => absurd rfl a⟩
  · rw [h]
    exact ⟨fun _ => cs_nm1 (by omega), fun _ => nI_pos' (by omega)⟩
def cs_dn : Nat → Int32
  | 0 => -1
  | k + 1 => nI k
theorem cs_dnE (k : Nat) : nI k + (-1) = cs_dn k := by
  cases k with
  | zero => decide
  | succ k => exact pk_m1 k
def cs_up (f : Nat → Nat) (p v : Nat) : Nat → Nat := fun q => if q = p then v else f q
theorem cs_us {f : Nat → Nat} {p v : Nat} : cs_up f p v p = v := if_pos rfl
theorem cs_un {f : Nat → Nat} {p v q : Nat} (h : q ≠ p) : cs_up f p v q = f q := if_neg h
/-! a copy of m cells of src to dst from base on -/
def cs_cp (d : Nat → Int32) (b : Nat) (s : Nat → Int32) (m : Nat) : Nat → Int32 := fun j => if b ≤ j ∧ j < b + m then s (j - b) else d j
theorem cs_cp0 (d : Nat → Int32) (b : Nat) (s : Nat → Int32) : cs_cp d b s 0 = d := by
  funext j
  exact if_neg (by omega)
theorem cs_cpS (d : Nat → Int32) (b : Nat) (s : Nat → Int32) (m : Nat) : upd (cs_cp d b s m) (b + m) (s m) = cs_cp d b s (m + 1) := by
  funext j
  by_cases h : j = b + m
  · subst h
    rw [pk_us]
    unfold cs_cp
    rw [if_pos (by omega), Nat.add_sub_cancel_left]
  · rw [pk_un h]
    unfold cs_cp
    by_cases g : b ≤ j ∧ j < b + m
    · rw [if_pos g, if_pos (by omega)]
    · rw [if_neg g, if_neg (by omega)]
theorem cs_cpS0 (d : Nat → Int32) (s : Nat → Int32) (m : Nat) : upd (cs_cp d 0 s m) m (s m) = cs_cp d 0 s (m + 1) := by
  have h := cs_cpS d 0 s m
  rw [Nat.zero_add] at h
  exact h
theorem cs_cpI {d : Nat → Int32} {b : Nat} {s : Nat → Int32} {m i : Nat} (h : i < m) : cs_cp d b s m (b + i) = s i := by
  unfold cs_cp
  rw [if_pos (by omega), Nat.add_sub_cancel_left]
theorem cs_cpI0 {d : Nat → Int32} {s : Nat → Int32} {m i : Nat} (h : i < m) : cs_cp d 0 s m i = s i := by
  have a := cs_cpI (d := d) (b := 0) (s := s) h
  rw [Nat.zero_add] at a
  exact a
theorem cs_cpO {d : Nat → Int32} {b : Nat} {s : Nat → Int32} {m j : Nat} (h : j < b ∨ b + m ≤ j) : cs_cp d b s m j = d j := if_neg (by omega)
/-! numbers below n: no n + 1 different ones -/
theorem cs_pig : ∀ (n : Nat) (q : Nat → Nat), (∀ s, s ≤ n → q s < n) → ∃ s t, s < t ∧ t ≤ n ∧ q s = q t := by
  intro n
  induction n with
  | zero =>
    intro q h
    have := h 0 (by omega)
    omega
  | succ n ih =>
    intro q h
    by_cases e : ∃ s, s ≤ n ∧ q s = q (n + 1)
    · obtain ⟨s, hs, hq⟩ := e
      exact ⟨s, n + 1, by omega, by omega, hq⟩
    · have ne : ∀ s, s ≤ n → q s ≠ q (n + 1) := fun s hs hq => e ⟨s, hs, hq⟩
      obtain ⟨s, t, hst, htn, hq⟩ := ih (fun s => if q s = n then q (n + 1) else q s) (fun s hs => by
        have a := h s (by omega)
        have b := h (n + 1) (by omega)
        have d := ne s hs
        show (if q s = n then q (n + 1) else q s) < n
        split <;> omega)
      refine ⟨s, t, hst, by omega, ?_⟩
      have hq' : (if q s = n then q (n + 1) else q s) = (if q t = n then q (n + 1) else q t) := hq
      have d := ne s (by omega)
      have d' := ne t (by omega)
      split at hq' <;> split at hq' <;> omega
/-! packed pages: tokens, chains of tokens -/
def cs_Tok (a g : Nat → Int32) (t i t' i' : Nat) : Prop :=
  (∃ m, a t = nI m ∧ t' = t + m + 2 ∧ i' = i + m + 1 ∧ i' ≤ 16 ∧ ∀ k, k ≤ m → a (t + 1 + k) = g (i + k)) ∨
  (∃ n d, 2 ≤ n ∧ 1 ≤ d ∧ d ≤ 15 ∧ d ≤ i ∧ a t = nI (16 + (n - 2) * 15 + d - 1) ∧ t' = t + 1 ∧ i' = i + n ∧ i' ≤ 16 ∧ ∀ k, i ≤ k → k < i' → g k = g (k - d))
def cs_Ch (a g : Nat → Int32) : Nat → Nat → Nat → Nat → Nat → Prop
  | 0 => fun t i t' i' => t = t' ∧ i = i'
  | r + 1 => fun t i t' i' => ∃ t1 i1, cs_Tok a g t i t1 i1 ∧ cs_Ch a g r t1 i1 t' i'
theorem cs_TokM {a g : Nat → Int32} {t i t' i' : Nat} (h : cs_Tok a g t i t' i') : t < t' ∧ i < i' ∧ i' ≤ 16 := by
  rcases h with ⟨m, h1, h2, h3, h4, h5⟩ | ⟨n, d, h1, h2, h3, h4, h5, h6, h7, h8, h9⟩ <;> omega
theorem cs_ChM {a g : Nat → Int32} : ∀ (r : Nat) {t i t' i' : Nat}, cs_Ch a g r t i t' i' → t + r ≤ t' ∧ i + r ≤ i' := by
  intro r
  induction r with
  | zero =>
    intro t i t' i' h
    obtain ⟨h1, h2⟩ := h
    omega
  | succ r ih =>
    intro t i t' i' h
    obtain ⟨t1, i1, h1, h2⟩ := h
    have a := ih h2
    have b := cs_TokM h1
    omega
theorem cs_ChS {a g : Nat → Int32} : ∀ (r : Nat) {t i t1 i1 t2 i2 : Nat}, cs_Ch a g r t i t1 i1 → cs_Tok a g t1 i1 t2 i2 → cs_Ch a g (r + 1) t i t2 i2 := by
  intro r
  induction r with
  | zero =>
    intro t i t1 i1 t2 i2 h k
    obtain ⟨h1, h2⟩ := h
    subst h1 h2
    exact ⟨t2, i2, k, rfl, rfl⟩
  | succ r ih =>
    intro t i t1 i1 t2 i2 h k
    obtain ⟨t3, i3, h1, h2⟩ := h
    exact ⟨t3, i3, h1, ih h2 k⟩
theorem cs_TokC {a g a' g' : Nat → Int32} {t i t' i' : Nat} (h : cs_Tok a g t i t' i') (ha : ∀ k, t ≤ k → k < t' → a' k = a k) (hg : ∀ k, k < 16 → g' k = g k) : cs_Tok a' g' t i t' i' := by
  rcases h with ⟨m, h1, h2, h3, h4, h5⟩ | ⟨n, d, h1, h2, h3, h4, h5, h6, h7, h8, h9⟩
  · refine Or.inl ⟨m, ?_, h2, h3, h4, fun k hk => ?_⟩
    · rw [ha t (by omega) (by omega)]
      exact h1
    · rw [ha (t + 1 + k) (by omega) (by omega), hg (i + k) (by omega)]
      exact h5 k hk
  · refine Or.inr ⟨n, d, h1, h2, h3, h4, ?_, h6, h7, h8, fun k hk hk' => ?_⟩
    · rw [ha t (by omega) (by omega)]
      exact h5
    · rw [hg k (by omega), hg (k - d) (by omega)]
      exact h9 k hk hk'
theorem cs_ChC {a g a' g' : Nat → Int32} (hg : ∀ k, k < 16 → g' k = g k) : ∀ (r : Nat) {t i t' i' : Nat}, cs_Ch a g r t i t' i' → (∀ k, t ≤ k → k < t' → a' k = a k) → cs_Ch a' g' r t i t' i' := by
  intro r
  induction r with
  | zero =>
    intro t i t' i' h _
    exact h
  | succ r ih =>
    intro t i t' i' h ha
    obtain ⟨t1, i1, h1, h2⟩ := h
    have m1 := cs_TokM h1
    have m2 := cs_ChM r h2
    exact ⟨t1, i1, cs_TokC h1 (fun k hk hk' => ha k hk (by omega)) hg, ih h2 (fun k hk hk' => ha k (by omega) hk')⟩
def cs_Dec (po : Nat → Int32) (B z : Nat) (g : Nat → Int32) : Prop := ∃ r, cs_Ch (fun k => po (B + k)) g r 0 0 z 16
def cs_base (e z : Nat) : Nat := e / 2 * 16 + (if e % 2 = 1 then 16 - z else 0)
theorem cs_DecC {po po' : Nat → Int32} {B z : Nat} {g g' : Nat → Int32} (h : cs_Dec po B z g) (ha : ∀ k, k < z → po' (B + k) = po (B + k)) (hg : ∀ k, k < 16 → g' k = g k) : cs_Dec po' B z g' := by
  obtain ⟨r, h⟩ := h
  exact ⟨r, cs_ChC hg r h (fun k _ hk => ha k hk)⟩
end
section
/-! one store: its owners and its pages -/
def cs_Sto (κ N : Nat) (c l : Nat → Nat) (ow : Nat → Int32) (H : Nat → Nat → Prop) : Prop :=
  (∀ p, p < 12 → c p = κ → l p < N ∧ ow (l p) = nI p ∧ H (l p) p) ∧
  (∀ j, j < N → ow j = -1 ∨ ∃ p, p < 12 ∧ c p = κ ∧ l p = j)
section
variable {κ N k P Q j : Nat} {c l l' : Nat → Nat} {ow ow' : Nat → Int32} {H H' : Nat → Nat → Prop}
theorem cs_ows (h : cs_Sto κ N c l ow H) (hj : j < N) : ow j = -1 ∨ ∃ p, p < 12 ∧ ow j = nI p := by
  rcases h.2 j hj with a | ⟨p, hp, hc, hl⟩
  · exact Or.inl a
  · exact Or.inr ⟨p, hp, by rw [← hl]; exact (h.1 p hp hc).2.1⟩
theorem cs_sinj (h : cs_Sto κ N c l ow H) {p : Nat} (hp : p < 12) (hq : Q < 12) (hcp : c p = κ) (hcq : c Q = κ) (e : p ≠ Q) : l p ≠ l Q := by
  intro e2
  have a := (h.1 p hp hcp).2.1
  rw [e2, (h.1 Q hq hcq).2.1] at a
  exact e (cs_inj hq hp a).symm
theorem cs_keepU (h : cs_Sto κ N c l ow H) (hP : c P ≠ κ) (hk : k ≠ κ) (el : ∀ p, p ≠ P → l' p = l p)
    (eH : ∀ p, p < 12 → p ≠ P → c p = κ → H (l p) p → H' (l p) p) : cs_Sto κ N (cs_up c P k) l' ow H' := by
  refine ⟨fun p hp hc => ?_, fun j hj => ?_⟩
  · by_cases e : p = P
    · subst e
      rw [cs_us] at hc
      exact absurd hc hk
    · rw [cs_un e] at hc
      obtain ⟨a1, a2, a3⟩ := h.1 p hp hc
      rw [el p e]
      exact ⟨a1, a2, eH p hp e hc a3⟩
  · rcases h.2 j hj with a | ⟨p, hp, hc, hl⟩
    · exact Or.inl a
    · have e : p ≠ P := fun e => hP (e ▸ hc)
      exact Or.inr ⟨p, hp, by rw [cs_un e]; exact hc, by rw [el p e]; exact hl⟩
theorem cs_rem (h : cs_Sto κ N c l ow H) (hP12 : P < 12) (hP : c P = κ) (hk : k ≠ κ) (el : ∀ p, p ≠ P → l' p = l p)
    (eH : ∀ p, p < 12 → p ≠ P → c p = κ → H (l p) p → H' (l p) p) : cs_Sto κ N (cs_up c P k) l' (upd ow (l P) (-1)) H' := by
  refine ⟨fun p hp hc => ?_, fun j hj => ?_⟩
  · by_cases e : p = P
    · subst e
      rw [cs_us] at hc
      exact absurd hc hk
    · rw [cs_un e] at hc
      obtain ⟨a1, a2, a3⟩ := h.1 p hp hc
      rw [el p e, pk_un (cs_sinj h hp hP12 hc hP e)]
      exact ⟨a1, a2, eH p hp e hc a3⟩
  · by_cases ej : j = l P
    · exact Or.inl (by rw [ej, pk_us])
    · rw [pk_un ej]
      rcases h.2 j hj with a | ⟨p, hp, hc, hl⟩
      · exact Or.inl a
      · have e : p ≠ P := fun e => ej (by rw [← hl, e])
        exact Or.inr ⟨p, hp, by rw [cs_un e]; exact hc, by rw [el p e]; exact hl⟩
theorem cs_add (h : cs_Sto κ N c l ow H) (hP12 : P < 12) (hP : c P ≠ κ) (hj : j < N) (hw : ow j = -1) (hH : H' j P)
    (eH : ∀ p, p < 12 → p ≠ P → c p = κ → l p ≠ j → H (l p) p → H' (l p) p) : cs_Sto κ N (cs_up c P κ) (cs_up l P j) (upd ow j (nI P)) H' := by
  have hne : ∀ p, p < 12 → c p = κ → l p ≠ j := fun p hp hc e => by
    have a := (h.1 p hp hc).2.1
    rw [e, hw] at a
    exact cs_nm1 (by omega) a.symm
  refine ⟨fun p hp hc => ?_, fun i hi => ?_⟩
  · by_cases e : p = P
    · subst e
      rw [cs_us, pk_us]
      exact ⟨hj, rfl, hH⟩
    · rw [cs_un e] at hc
      obtain ⟨a1, a2, a3⟩ := h.1 p hp hc
      rw [cs_un e, pk_un (hne p hp hc)]
      exact ⟨a1, a2, eH p hp e hc (hne p hp hc) a3⟩
  · by_cases ei : i = j
    · subst ei
      exact Or.inr ⟨P, hP12, cs_us, cs_us⟩
    · rw [pk_un ei]
      rcases h.2 i hi with a | ⟨p, hp, hc, hl⟩
      · exact Or.inl a
      · have e : p ≠ P := fun e => hP (e ▸ hc)
        exact Or.inr ⟨p, hp, by rw [cs_un e]; exact hc, by rw [cs_un e]; exact hl⟩
theorem cs_free (h : cs_Sto κ 12 c l ow H) (hP12 : P < 12) (hP : c P ≠ κ) : ∃ s, s < 12 ∧ ow s = -1 := by
  refine Classical.byContradiction fun no => ?_
  have all : ∀ s, ∃ p, s < 12 → p < 12 ∧ c p = κ ∧ l p = s := fun s => by
    by_cases hs : s < 12
    · rcases h.2 s hs with a | ⟨p, hp, hc, hl⟩
      · exact absurd ⟨s, hs, a⟩ no
      · exact ⟨p, fun _ => ⟨hp, hc, hl⟩⟩
    · exact ⟨0, fun a => absurd a hs⟩
  have ⟨q, hq⟩ : ∃ q : Nat → Nat, ∀ s, s < 12 → q s < 12 ∧ c (q s) = κ ∧ l (q s) = s := ⟨fun s => Classical.choose (all s), fun s => Classical.choose_spec (all s)⟩
  have hne : ∀ s, s < 12 → q s ≠ P := fun s hs e => hP (e ▸ (hq s hs).2.1)
  obtain ⟨s, t, hst, ht, e⟩ := cs_pig 11 (fun s => if q s = 11 then P else q s) (fun s hs => by
    have a := (hq s (by omega)).1
    have b := hne s (by omega)
    show (if q s = 11 then P else q s) < 11
    split <;> omega)
  have e' : (if q s = 11 then P else q s) = (if q t = 11 then P else q t) := e
  have b := hne s (by omega)
  have b' := hne t (by omega)
  have qe : q s = q t := by
    split at e' <;> split at e' <;> omega
  have l1 := (hq s (by omega)).2.2
  have l2 := (hq t (by omega)).2.2
  rw [qe] at l1
  omega
def cs_rl (κ k j : Nat) (ow : Nat → Int32) : Nat → Int32 := if k = κ then upd ow j (-1) else ow
theorem cs_relS (h : cs_Sto κ N c l ow H) (hκ : 0 ≠ κ) (hP12 : P < 12)
    (eH : ∀ p, p < 12 → p ≠ P → c p = κ → H (l p) p → H' (l p) p) : cs_Sto κ N (cs_up c P 0) l (cs_rl κ (c P) (l P) ow) H' := by
  unfold cs_rl
  by_cases e : c P = κ
  · rw [if_pos e]
    exact cs_rem h hP12 e hκ (fun _ _ => rfl) eH
  · rw [if_neg e]
    exact cs_keepU h e hκ (fun _ _ => rfl) eH
theorem cs_rlm {i : Nat} (h : ow i = -1) : cs_rl κ k j ow i = -1 := by
  unfold cs_rl
  by_cases e : k = κ
  · rw [if_pos e]
    by_cases e2 : i = j
    · rw [e2, pk_us]
    · rw [pk_un e2, h]
  · rw [if_neg e, h]
/-! two pages change places -/
def cs_tr (P Q p : Nat) : Nat := if p = P then Q else if p = Q then P else p
theorem cs_trP : cs_tr P Q P = Q := if_pos rfl
theorem cs_trQ : cs_tr P Q Q = P := by
  unfold cs_tr
  by_cases e : Q = P
  · rw [if_pos e, e]
  · rw [if_neg e, if_pos rfl]
theorem cs_trN {p : Nat} (h : p ≠ P) (h' : p ≠ Q) : cs_tr P Q p = p := by
  unfold cs_tr
  rw [if_neg h, if_neg h']
theorem cs_trtr (p : Nat) : cs_tr P Q (cs_tr P Q p) = p := by
  by_cases e : p = P
  · rw [e, cs_trP, cs_trQ]
  · by_cases e2 : p = Q
    · rw [e2, cs_trQ, cs_trP]
    · rw [cs_trN e e2, cs_trN e e2]
theorem cs_trL {p : Nat} (hP : P < 12) (hQ : Q < 12) (h : p < 12) : cs_tr P Q p < 12 := by
  unfold cs_tr
  split
  · exact hQ
  · split
    · exact hP
    · exact h
def cs_cl (κ k j p : Nat) (ow : Nat → Int32) : Nat → Int32 := if k = κ then upd ow j (nI p) else ow
theorem cs_swp (h : cs_Sto κ N c l ow H) (hP : P < 12) (hQ : Q < 12)
    (eH : ∀ p, p < 12 → c p = κ → H (l p) p → H' (l p) (cs_tr P Q p)) :
    cs_Sto κ N (fun p => c (cs_tr P Q p)) (fun p => l (cs_tr P Q p)) (cs_cl κ (c P) (l P) Q (cs_cl κ (c Q) (l Q) P ow)) H' := by
  have e : ∀ p, p < 12 → c p = κ → (cs_cl κ (c P) (l P) Q (cs_cl κ (c Q) (l Q) P ow)) (l p) = nI (cs_tr P Q p) := by
    intro p hp hc
    unfold cs_cl
    by_cases eP : p = P
    · subst eP
      rw [if_pos hc, pk_us, cs_trP]
    · have h1 : (if c P = κ then upd (if c Q = κ then upd ow (l Q) (nI P) else ow) (l P) (nI Q) else (if c Q = κ then upd ow (l Q) (nI P) else ow)) (l p) = (if c Q = κ then upd ow (l Q) (nI P) else ow) (l p) := by
        by_cases cP : c P = κ
        · rw [if_pos cP, pk_un (cs_sinj h hp hP hc cP eP)]
        · rw [if_neg cP]
      rw [h1]
      by_cases eQ : p = Q
      · subst eQ
        rw [if_pos hc, pk_us, cs_trQ]
      · rw [cs_trN eP eQ]
        by_cases cQ : c Q = κ
        · rw [if_pos cQ, pk_un (cs_sinj h hp hQ hc cQ eQ)]
          exact (h.1 p hp hc).2.1
        · rw [if_neg cQ]
          exact (h.1 p hp hc).2.1
  have em : ∀ j, ow j = -1 → (cs_cl κ (c P) (l P) Q (cs_cl κ (c Q) (l Q) P ow)) j = -1 := by
    intro j hj
    have ne : ∀ p, p < 12 → c p = κ → j ≠ l p := fun p hp hc e => by
      have a := (h.1 p hp hc).2.1
      rw [← e, hj] at a
      exact cs_nm1 (by omega) a.symm
    have h2 : cs_cl κ (c Q) (l Q) P ow j = -1 := by
      unfold cs_cl
      by_cases cQ : c Q = κ
      · rw [if_pos cQ, pk_un (ne Q hQ cQ)]
        exact hj
      · rw [if_neg cQ]
        exact hj
    unfold cs_cl
    by_cases cP : c P = κ
    · rw [if_pos cP, pk_un (ne P hP cP)]
      exact h2
    · rw [if_neg cP]
      exact h2
  refine ⟨fun p hp hc => ?_, fun j hj => ?_⟩
  · have hq := cs_trL hP hQ hp
    obtain ⟨a1, a2, a3⟩ := h.1 _ hq hc
    refine ⟨a1, ?_, ?_⟩
    · have b := e _ hq hc
      rw [cs_trtr] at b
      exact b
    · have b := eH _ hq hc a3
      rw [cs_trtr] at b
      exact b
  · rcases h.2 j hj with a | ⟨p, hp, hc, hl⟩
    · exact Or.inl (em j a)
    · refine Or.inr ⟨cs_tr P Q p, cs_trL hP hQ hp, ?_, ?_⟩
      · show c (cs_tr P Q (cs_tr P Q p)) = κ
        rw [cs_trtr]
        exact hc
      · show l (cs_tr P Q (cs_tr P Q p)) = j
        rw [cs_trtr]
        exact hl
end
/-! the contents of a place -/
def cs_H (fr b : Nat → Int32) (j p : Nat) : Prop := ∀ i, i < 16 → fr (j * 16 + i) = b (16 * p + i)
def cs_HP (po ps b : Nat → Int32) (e p : Nat) : Prop := ∃ z, z < 16 ∧ ps e = nI z ∧ cs_Dec po (cs_base e z) z (fun i => b (16 * p + i))
theorem cs_HC {fr b b' : Nat → Int32} {j p : Nat} (h : cs_H fr b j p) (e : ∀ i, i < 16 → b' (16 * p + i) = b (16 * p + i)) : cs_H fr b' j p := fun i hi => by
  rw [e i hi]
  exact h i hi
theorem cs_HPC {po ps b b' : Nat → Int32} {j p : Nat} (h : cs_HP po ps b j p) (e : ∀ i, i < 16 → b' (16 * p + i) = b (16 * p + i)) : cs_HP po ps b' j p := by
  obtain ⟨z, hz, hs, hd⟩ := h
  exact ⟨z, hz, hs, cs_DecC hd (fun _ _ => rfl) e⟩
def cs_zp (b : Nat → Int32) (P : Nat) : Nat → Int32 := fun j => if j / 16 = P then 0 else b j
theorem cs_zps {b : Nat → Int32} {P i : Nat} (hi : i < 16) : cs_zp b P (16 * P + i) = 0 := if_pos (by omega)
theorem cs_zpn {b : Nat → Int32} {P p i : Nat} (hi : i < 16) (e : p ≠ P) : cs_zp b P (16 * p + i) = b (16 * p + i) := if_neg (by omega)
theorem cs_zpz {b : Nat → Int32} {P : Nat} (h : ∀ i, i < 16 → b (16 * P + i) = 0) : cs_zp b P = b := by
  funext j
  unfold cs_zp
  by_cases e : j / 16 = P
  · rw [if_pos e]
    have a := h (j % 16) (by omega)
    have e2 : 16 * P + j % 16 = j := by omega
    rw [e2] at a
    exact a.symm
  · rw [if_neg e]
/-! THE INVARIANT -/
def cs_B (b : Nat → Int32) : Prop := ∀ j, j < 192 → ∃ v, v < 256 ∧ b j = nI v
def cs_Nz (b : Nat → Int32) (p : Nat) : Prop := ∃ i, i < 16 ∧ b (16 * p + i) ≠ 0
def cs_Inv (c l : Nat → Nat) (b kd pl fr fp po pp ps sl sp : Nat → Int32) : Prop :=
  (∀ p, p < 12 → c p < 4 ∧ kd p = nI (c p) ∧ pl p = nI (l p)) ∧
  cs_Sto 1 3 c l fp (cs_H fr b) ∧
  cs_Sto 2 8 c l pp (cs_HP po ps b) ∧
  cs_Sto 3 12 c l sp (cs_H sl b) ∧
  (∀ p, p < 12 → (c p = 0 → ∀ i, i < 16 → b (16 * p + i) = 0) ∧ (2 ≤ c p → cs_Nz b p)) ∧
  (∀ f, f < 4 → pp (f * 2) ≠ -1 → pp (f * 2 + 1) ≠ -1 → ∃ y z, y < 16 ∧ z < 16 ∧ ps (f * 2) = nI y ∧ ps (f * 2 + 1) = nI z ∧ y + z ≤ 16) ∧
  cs_B b
section
variable {c l : Nat → Nat} {b kd pl fr fp po pp ps sl sp : Nat → Int32} {P : Nat}
theorem cs_InvR (I : cs_Inv c l b kd pl fr fp po pp ps sl sp) (hP : P < 12) :
    cs_Inv (cs_up c P 0) l (cs_zp b P) (upd kd P 0) pl fr (cs_rl 1 (c P) (l P) fp) po (cs_rl 2 (c P) (l P) pp) ps sl (cs_rl 3 (c P) (l P) sp) := by
  obtain ⟨h0, h1, h2, h3, h4, h5, h6⟩ := I
  refine ⟨fun p hp => ?_, cs_relS h1 (by decide) hP (fun p _ e _ h => cs_HC h (fun i hi => cs_zpn hi e)), cs_relS h2 (by decide) hP (fun p _ e _ h => cs_HPC h (fun i hi => cs_zpn hi e)), cs_relS h3 (by decide) hP (fun p _ e _ h => cs_HC h (fun i hi => cs_zpn hi e)), fun p hp => ?_, fun f hf a b => ?_, fun j hj => ?_⟩
  · by_cases e : p = P
    · subst e
      rw [cs_us, pk_us]
      exact ⟨by omega, nI_0.symm, (h0 p hp).2.2⟩
    · rw [cs_un e, pk_un e]
      exact h0 p hp
  · by_cases e : p = P
    · subst e
      rw [cs_us]
      exact ⟨fun _ i hi => cs_zps hi, fun h => absurd h (by decide)⟩
    · rw [cs_un e]
      refine ⟨fun hc i hi => by rw [cs_zpn hi e]; exact (h4 p hp).1 hc i hi, fun hc => ?_⟩
      obtain ⟨i, hi, hb⟩ := (h4 p hp).2 hc
      exact ⟨i, hi, by rw [cs_zpn hi e]; exact hb⟩
  · exact h5 f hf (fun e => a (cs_rlm e)) (fun e => b (cs_rlm e))
  · unfold cs_zp
    split
    · exact ⟨0, by omega, nI_0.symm⟩
    · exact h6 j hj
/-- what every add keeps -/
theorem cs_add0 {k j : Nat} (h0 : ∀ p, p < 12 → c p < 4 ∧ kd p = nI (c p) ∧ pl p = nI (l p)) (hk : k < 4) : ∀ p, p < 12 → cs_up c P k p < 4 ∧ upd kd P (nI k) p = nI (cs_up c P k p) ∧ upd pl P (nI j) p = nI (cs_up l P j p) := by
  intro p hp
  by_cases e : p = P
  · subst e
    rw [cs_us, pk_us, pk_us, cs_us]
    exact ⟨hk, rfl, rfl⟩
  · rw [cs_un e, pk_un e, pk_un e, cs_un e]
    exact h0 p hp
theorem cs_add4 {k : Nat} (hk : 1 ≤ k) (hz : 2 ≤ k → cs_Nz b P) (h4 : ∀ p, p < 12 → (c p = 0 → ∀ i, i < 16 → cs_zp b P (16 * p + i) = 0) ∧ (2 ≤ c p → cs_Nz (cs_zp b P) p)) :
    ∀ p, p < 12 → (cs_up c P k p = 0 → ∀ i, i < 16 → b (16 * p + i) = 0) ∧ (2 ≤ cs_up c P k p → cs_Nz b p) := by
  intro p hp
  by_cases e : p = P
  · subst e
    rw [cs_us]
    exact ⟨fun h => by omega, hz⟩
  · rw [cs_un e]
    refine ⟨fun hc i hi => by rw [← cs_zpn (b := b) (P := P) hi e]; exact (h4 p hp).1 hc i hi, fun hc => ?_⟩
    obtain ⟨i, hi, hb⟩ := (h4 p hp).2 hc
    exact ⟨i, hi, by rw [cs_zpn hi e] at hb; exact hb⟩
theorem cs_InvF {fr' : Nat → Int32} {f : Nat} (I : cs_Inv c l (cs_zp b P) kd pl fr fp po pp ps sl sp) (hP : P < 12) (hc : c P = 0) (hf : f < 3) (hw : fp f = -1) (hB : cs_B b)
    (e1 : ∀ i, i < 16 → fr' (f * 16 + i) = b (16 * P + i)) (e2 : ∀ j, (j < f * 16 ∨ f * 16 + 16 ≤ j) → fr' j = fr j) :
    cs_Inv (cs_up c P 1) (cs_up l P f) b (upd kd P (nI 1)) (upd pl P (nI f)) fr' (upd fp f (nI P)) po pp ps sl sp := by
  obtain ⟨h0, h1, h2, h3, h4, h5, h6⟩ := I
  refine ⟨cs_add0 h0 (by decide), cs_add h1 hP (by rw [hc]; decide) hf hw e1 (fun p hp e hcp hl h i hi => ?_), cs_keepU h2 (by rw [hc]; decide) (by decide) (fun p e => cs_un e) (fun p _ e _ h => cs_HPC h (fun i hi => (cs_zpn hi e).symm)), cs_keepU h3 (by rw [hc]; decide) (by decide) (fun p e => cs_un e) (fun p _ e _ h => cs_HC h (fun i hi => (cs_zpn hi e).symm)), cs_add4 (by decide) (fun h => absurd h (by decide)) h4, h5, hB⟩
  rw [e2 _ (by omega), h i hi, cs_zpn hi e]
theorem cs_InvS {sl' : Nat → Int32} {f : Nat} (I : cs_Inv c l (cs_zp b P) kd pl fr fp po pp ps sl sp) (hP : P < 12) (hc : c P = 0) (hf : f < 12) (hw : sp f = -1) (hB : cs_B b) (hz : cs_Nz b P)
    (e1 : ∀ i, i < 16 → sl' (f * 16 + i) = b (16 * P + i)) (e2 : ∀ j, (j < f * 16 ∨ f * 16 + 16 ≤ j) → sl' j = sl j) :
    cs_Inv (cs_up c P 3) (cs_up l P f) b (upd kd P (nI 3)) (upd pl P (nI f)) fr fp po pp ps sl' (upd sp f (nI P)) := by
  obtain ⟨h0, h1, h2, h3, h4, h5, h6⟩ := I
  refine ⟨cs_add0 h0 (by decide), cs_keepU h1 (by rw [hc]; decide) (by decide) (fun p e => cs_un e) (fun p _ e _ h => cs_HC h (fun i hi => (cs_zpn hi e).symm)), cs_keepU h2 (by rw [hc]; decide) (by decide) (fun p e => cs_un e) (fun p _ e _ h => cs_HPC h (fun i hi => (cs_zpn hi e).symm)), cs_add h3 hP (by rw [hc]; decide) hf hw e1 (fun p hp e hcp hl h i hi => ?_), cs_add4 (by decide) (fun _ => hz) h4, h5, hB⟩
  rw [e2 _ (by omega), h i hi, cs_zpn hi e]
theorem cs_InvP {po' : Nat → Int32} {e z : Nat} (I : cs_Inv c l (cs_zp b P) kd pl fr fp po pp ps sl sp) (hP : P < 12) (hc : c P = 0) (he : e < 8) (hw : pp e = -1) (hB : cs_B b) (hz : cs_Nz b P) (hz16 : z < 16)
    (hf0 : e % 2 = 0 → pp (e + 1) ≠ -1 → ∃ y, y < 16 ∧ ps (e + 1) = nI y ∧ y + z ≤ 16) (hf1 : e % 2 = 1 → pp (e - 1) ≠ -1 → ∃ y, y < 16 ∧ ps (e - 1) = nI y ∧ y + z ≤ 16)
    (e1 : cs_Dec po' (cs_base e z) z (fun i => b (16 * P + i))) (e2 : ∀ j, (j < cs_base e z ∨ cs_base e z + z ≤ j) → po' j = po j) :
    cs_Inv (cs_up c P 2) (cs_up l P e) b (upd kd P (nI 2)) (upd pl P (nI e)) fr fp po' (upd pp e (nI P)) (upd ps e (nI z)) sl sp := by
  obtain ⟨h0, h1, h2, h3, h4, h5, h6⟩ := I
  refine ⟨cs_add0 h0 (by decide), cs_keepU h1 (by rw [hc]; decide) (by decide) (fun p e => cs_un e) (fun p _ e _ h => cs_HC h (fun i hi => (cs_zpn hi e).symm)), cs_add h2 hP (by rw [hc]; decide) he hw ⟨z, hz16, pk_us, e1⟩ (fun p hp ep hcp hl h => ?_), cs_keepU h3 (by rw [hc]; decide) (by decide) (fun p e => cs_un e) (fun p _ e _ h => cs_HC h (fun i hi => (cs_zpn hi e).symm)), cs_add4 (by decide) (fun _ => hz) h4, fun f hf a1 a2 => ?_, hB⟩
  · obtain ⟨y, hy, hs, hd⟩ := h
    refine ⟨y, hy, by rw [pk_un hl]; exact hs, cs_DecC hd (fun k hk => e2 _ ?_) (fun i hi => (cs_zpn hi ep).symm)⟩
    obtain ⟨l8, hpp, -⟩ := h2.1 p hp hcp
    have hne : pp (l p) ≠ -1 := by rw [hpp]; exact cs_nm1 (by omega)
    generalize l p = q at *
    by_cases hq : q / 2 = e / 2
    · by_cases hodd : e % 2 = 1
      · have hq' : q = e - 1 := by omega
        rw [hq'] at hne hs
        obtain ⟨y', hy', hs', hyz⟩ := hf1 hodd hne
        have : y = y' := (nI_eq (by omega) (by omega)).mp (hs.symm.trans hs')
        unfold cs_base
        rw [if_neg (by omega), if_pos hodd]
        omega
      · have hq' : q = e + 1 := by omega
        rw [hq'] at hne hs
        obtain ⟨y', hy', hs', hyz⟩ := hf0 (by omega) hne
        have : y = y' := (nI_eq (by omega) (by omega)).mp (hs.symm.trans hs')
        unfold cs_base
        rw [if_pos (by omega), if_neg hodd]
        omega
    · unfold cs_base
      split <;> split <;> omega
  · by_cases q0 : f * 2 = e
    · rw [q0] at a1 a2 ⊢
      have a3 : pp (e + 1) ≠ -1 := by
        intro h
        exact a2 (by rw [pk_un (by omega), h])
      obtain ⟨y, hy, hs, hyz⟩ := hf0 (by omega) a3
      exact ⟨z, y, hz16, hy, pk_us, by rw [pk_un (by omega)]; exact hs, by omega⟩
    · by_cases q1 : f * 2 + 1 = e
      · have a3 : pp (e - 1) ≠ -1 := by
          intro h
          have q2 : f * 2 = e - 1 := by omega
          exact a1 (by rw [pk_un q0, q2, h])
        obtain ⟨y, hy, hs, hyz⟩ := hf1 (by omega) a3
        have q2 : f * 2 = e - 1 := by omega
        rw [q1, q2]
        exact ⟨y, z, hy, hz16, by rw [pk_un (by omega)]; exact hs, pk_us, hyz⟩
      · rw [pk_un q0] at a1
        rw [pk_un q1] at a2
        rw [pk_un q0, pk_un q1]
        exact h5 f hf a1 a2
theorem cs_InvW {i w : Nat} (I : cs_Inv c l b kd pl fr fp po pp ps sl sp) (hP : P < 12) (hc : c P = 1) (hi : i < 16) (hw : w < 256) :
    cs_Inv c l (upd b (16 * P + i) (nI w)) kd pl (upd fr (l P * 16 + i) (nI w)) fp po pp ps sl sp := by
  obtain ⟨h0, h1, h2, h3, h4, h5, h6⟩ := I
  have hn : ∀ p, p ≠ P → ∀ k, k < 16 → upd b (16 * P + i) (nI w) (16 * p + k) = b (16 * p + k) := fun p e k hk => pk_un (by omega)
  refine ⟨h0, ⟨fun p hp hcp => ?_, h1.2⟩, ⟨fun p hp hcp => ?_, h2.2⟩, ⟨fun p hp hcp => ?_, h3.2⟩, fun p hp => ?_, h5, fun j hj => ?_⟩
  · obtain ⟨a1, a2, a3⟩ := h1.1 p hp hcp
    refine ⟨a1, a2, fun k hk => ?_⟩
    by_cases e : p = P
    · subst e
      by_cases ek : k = i
      · subst ek
        rw [pk_us, pk_us]
      · rw [pk_un (by omega), pk_un (by omega)]
        exact a3 k hk
    · have hl := cs_sinj h1 hp hP hcp hc e
      rw [hn p e k hk, pk_un (by omega)]
      exact a3 k hk
  · obtain ⟨a1, a2, a3⟩ := h2.1 p hp hcp
    have e : p ≠ P := fun e => by rw [e, hc] at hcp; exact absurd hcp (by decide)
    exact ⟨a1, a2, cs_HPC a3 (hn p e)⟩
  · obtain ⟨a1, a2, a3⟩ := h3.1 p hp hcp
    have e : p ≠ P := fun e => by rw [e, hc] at hcp; exact absurd hcp (by decide)
    exact ⟨a1, a2, cs_HC a3 (hn p e)⟩
  · by_cases e : p = P
    · rw [e, hc]
      exact ⟨fun h => absurd h (by decide), fun h => absurd h (by decide)⟩
    · refine ⟨fun h k hk => by rw [hn p e k hk]; exact (h4 p hp).1 h k hk, fun h => ?_⟩
      obtain ⟨k, hk, hb⟩ := (h4 p hp).2 h
      exact ⟨k, hk, by rw [hn p e k hk]; exact hb⟩
  · by_cases e : j = 16 * P + i
    · rw [e, pk_us]
      exact ⟨w, hw, rfl⟩
    · rw [pk_un e]
      exact h6 j hj
theorem cs_InvX {Q : Nat} {b' kd' pl' : Nat → Int32} (I : cs_Inv c l b kd pl fr fp po pp ps sl sp) (hP : P < 12) (hQ : Q < 12)
    (ek : ∀ p, p < 12 → kd' p = kd (cs_tr P Q p)) (el : ∀ p, p < 12 → pl' p = pl (cs_tr P Q p))
    (eb : ∀ p, p < 12 → ∀ i, i < 16 → b' (16 * p + i) = b (16 * cs_tr P Q p + i)) :
    cs_Inv (fun p => c (cs_tr P Q p)) (fun p => l (cs_tr P Q p)) b' kd' pl' fr (cs_cl 1 (c P) (l P) Q (cs_cl 1 (c Q) (l Q) P fp)) po (cs_cl 2 (c P) (l P) Q (cs_cl 2 (c Q) (l Q) P pp)) ps sl (cs_cl 3 (c P) (l P) Q (cs_cl 3 (c Q) (l Q) P sp)) := by
  obtain ⟨h0, h1, h2, h3, h4, h5, h6⟩ := I
  have eb' : ∀ p, p < 12 → ∀ i, i < 16 → b' (16 * cs_tr P Q p + i) = b (16 * p + i) := fun p hp i hi => by
    have a := eb _ (cs_trL hP hQ hp) i hi
    rw [cs_trtr] at a
    exact a
  have S2 := cs_swp (H' := cs_HP po ps b') h2 hP hQ (fun p hp _ h => by
      obtain ⟨z, hz, hs, hd⟩ := h
      exact ⟨z, hz, hs, cs_DecC hd (fun _ _ => rfl) (fun i hi => eb' p hp i hi)⟩)
  refine ⟨fun p hp => ?_, cs_swp h1 hP hQ (fun p hp _ h i hi => by rw [eb' p hp i hi]; exact h i hi), S2, cs_swp h3 hP hQ (fun p hp _ h i hi => by rw [eb' p hp i hi]; exact h i hi), fun p hp => ?_, fun f hf a1 a2 => ?_, fun j hj => ?_⟩
  · obtain ⟨a1, a2, a3⟩ := h0 _ (cs_trL hP hQ hp)
    exact ⟨a1, (ek p hp).trans a2, (el p hp).trans a3⟩
  · have hq := cs_trL hP hQ hp
    refine ⟨fun h i hi => by rw [eb p hp i hi]; exact (h4 _ hq).1 h i hi, fun h => ?_⟩
    obtain ⟨i, hi, hb⟩ := (h4 _ hq).2 h
    exact ⟨i, hi, by rw [eb p hp i hi]; exact hb⟩
  · have back : ∀ j, j < 8 → (cs_cl 2 (c P) (l P) Q (cs_cl 2 (c Q) (l Q) P pp)) j ≠ -1 → pp j ≠ -1 := by
      intro j hj ha hb
      rcases S2.2 j hj with a | ⟨p, hp, hcp, hlp⟩
      · exact ha a
      · have b2 := (h2.1 _ (cs_trL hP hQ hp) hcp).2.1
        have hlp' : l (cs_tr P Q p) = j := hlp
        rw [hlp', hb] at b2
        exact cs_nm1 (by have := cs_trL hP hQ hp; omega) b2.symm
    exact h5 f hf (back _ (by omega) a1) (back _ (by omega) a2)
  · obtain ⟨v, hv, e⟩ := h6 (16 * cs_tr P Q (j / 16) + j % 16) (by have := cs_trL hP hQ (p := j / 16) (by omega); omega)
    refine ⟨v, hv, ?_⟩
    rw [← e, ← eb (j / 16) (by omega) (j % 16) (by omega)]
    congr 1
    omega
end
end
section
section
variable {ck pz : Int32} {kd pl fr fp fs po pp ps pt sl sp pk pn he : Nat → Int32}
theorem cs_repL {post : Int32 → Prop} {f i y : Nat} (hf : f < 3) (hy1 : 1 ≤ y) (hyi : y ≤ i)
    (K : ∀ r, i + r ≤ 16 → (∀ j, i ≤ j → j < i + r → fr (f * 16 + j) = fr (f * 16 + (j - y))) → post (nI r)) :
    ∀ d k n, k + d = 16 → i ≤ k → (∀ j, i ≤ j → j < k → fr (f * 16 + j) = fr (f * 16 + (j - y))) → d < n → wX_repeatAt_6 post (nI (f * 16)) (nI y) ck pz kd pl fr fp fs po pp ps pt sl sp pk pn he n (nI (k - i)) (nI k) := by
  intro d
  induction d with
  | zero =>
    intro k n hk hik hm hn
    obtain ⟨n, rfl⟩ : ∃ m, n = m + 1 := ⟨n - 1, by omega⟩
    exact br_t (nI_le (a := 16) (by omega) (by omega)) (K _ (by omega) (fun j h1 h2 => hm j h1 (by omega)))
  | succ d ih =>
    intro k n hk hik hm hn
    obtain ⟨n, rfl⟩ : ∃ m, n = m + 1 := ⟨n - 1, by omega⟩
    have h16 : ¬ (16 : Int32) ≤ nI k := nI_ge (b := 16) (by omega) (by decide)
    have e1 : nI (f * 16) + nI k = nI (f * 16 + k) := nI_add _ _
    have e0 : f * 16 + k - y = f * 16 + (k - y) := by omega
    have e2 : nI (f * 16) + nI k - nI y = nI (f * 16 + (k - y)) := by rw [e1, pk_sub (by omega), e0]
    have c1 : (nI (f * 16) + nI k).toNatClampNeg = f * 16 + k := pk_cl _ e1
    have c2 : (nI (f * 16) + nI k - nI y).toNatClampNeg = f * 16 + (k - y) := pk_cl _ e2
    refine br_f h16 (And.intro (pk_in _ 48 (by omega) e1) (And.intro (pk_in _ 48 (by omega) e2) ?_))
    rw [c1, c2]
    refine br_c (fun h => ?_) (fun h => K _ (by omega) (fun j h1 h2 => hm j h1 (by omega)))
    have e3 : k - i + 1 = k + 1 - i := by omega
    refine nm_r (e' := nI (k + 1 - i)) (by rw [nI_1, e3]) (nm_r (nI_1 k) (ih (k + 1) n (by omega) (by omega) (fun j h1 h2 => ?_) (by omega)))
    by_cases e : j = k
    · rw [e]
      exact h
    · exact hm j h1 (by omega)
theorem cs_repeatAt {post : Int32 → Prop} {f i y : Nat} (hf : f < 3) (hi : i < 16) (hy1 : 1 ≤ y) (hyi : y ≤ i)
    (K : ∀ r, i + r ≤ 16 → (∀ j, i ≤ j → j < i + r → fr (f * 16 + j) = fr (f * 16 + (j - y))) → post (nI r)) :
    wpX_repeatAt post (ck, pz, kd, pl, fr, fp, fs, po, pp, ps, pt, sl, sp, pk, pn, he) (nI (f * 16)) (nI i) (nI y) := by
  have h := cs_repL (ck := ck) (pz := pz) (kd := kd) (pl := pl) (fp := fp) (fs := fs) (po := po) (pp := pp) (ps := ps) (pt := pt) (sl := sl) (sp := sp) (pk := pk) (pn := pn) (he := he) hf hy1 hyi K (16 - i) i (16 - i + 1) (by omega) (by omega) (fun j h1 h2 => absurd h2 (by omega)) (by omega)
  rw [Nat.sub_self] at h
  exact Exists.intro _ h
theorem cs_append {post : SX → Prop} {z : Nat} {v : Int32} (hz : z < 24) (h : post (ck, nI (z + 1), kd, pl, fr, fp, fs, po, pp, ps, pt, sl, sp, upd pk z v, pn, he)) : wpX_append post (ck, nI z, kd, pl, fr, fp, fs, po, pp, ps, pt, sl, sp, pk, pn, he) v := by
  refine And.intro (vp_in_nI hz (by decide)) ?_
  exact nm_r (e' := upd pk z v) (by rw [nI_clamp (by omega)]) (nm_r (nI_1 z) h)
/-! what the packing loop keeps -/
def cs_PI (g : Nat → Int32) (x3 : Int32) (i z : Nat) (pk : Nat → Int32) : Prop :=
  (x3 = -1 ∧ z ≤ i ∧ ∃ r, cs_Ch pk g r 0 0 z i) ∨
  (∃ a m i0 r, x3 = nI a ∧ i = i0 + m + 1 ∧ z = a + m + 2 ∧ a ≤ i0 ∧ pk a = nI m ∧ (∀ k, k ≤ m → pk (a + 1 + k) = g (i0 + k)) ∧ cs_Ch pk g r 0 0 a i0)
theorem cs_PIc {g : Nat → Int32} {x3 : Int32} {i z : Nat} (h : cs_PI g x3 i z pk) (hi : i ≤ 16) : z ≤ i + 1 ∧ ∃ r, cs_Ch pk g r 0 0 z i := by
  rcases h with ⟨_, h2, h3⟩ | ⟨a, m, i0, r, h1, h2, h3, h4, h5, h6, h7⟩
  · exact ⟨by omega, h3⟩
  · refine ⟨by omega, r + 1, cs_ChS r h7 (Or.inl ⟨m, h5, h3, h2, by omega, h6⟩)⟩
theorem cs_PIn {g : Nat → Int32} {i z r : Nat} (hz : z ≤ i) (h : cs_Ch pk g r 0 0 z i) :
    cs_PI g (nI z) (i + 1) (z + 2) (upd (upd (upd pk z (-1)) z (upd pk z (-1) z + 1)) (z + 1) (g i)) := by
  refine Or.inr ⟨z, 0, i, r, rfl, rfl, rfl, hz, ?_, fun k hk => ?_, cs_ChC (fun _ _ => rfl) r h (fun k _ hk => ?_)⟩
  · rw [pk_un (by omega), pk_us, pk_us]
    decide
  · have e : k = 0 := by omega
    subst e
    exact pk_us
  · rw [pk_un (by omega), pk_un (by omega), pk_un (by omega)]
theorem cs_PIm {g : Nat → Int32} {i z a m i0 r : Nat} (h2 : i = i0 + m + 1) (h3 : z = a + m + 2) (h4 : a ≤ i0) (h5 : pk a = nI m) (h6 : ∀ k, k ≤ m → pk (a + 1 + k) = g (i0 + k)) (h7 : cs_Ch pk g r 0 0 a i0) :
    cs_PI g (nI a) (i + 1) (z + 1) (upd (upd pk a (pk a + 1)) z (g i)) := by
  refine Or.inr ⟨a, m + 1, i0, r, rfl, by omega, by omega, h4, ?_, fun k hk => ?_, cs_ChC (fun _ _ => rfl) r h7 (fun k _ hk => ?_)⟩
  · rw [pk_un (by omega), pk_us, h5, nI_1]
  · by_cases e : k = m + 1
    · have e1 : a + 1 + k = z := by omega
      have e2 : i0 + k = i := by omega
      rw [e1, e2]
      exact pk_us
    · rw [pk_un (by omega), pk_un (by omega)]
      exact h6 k (by omega)
  · rw [pk_un (by omega), pk_un (by omega)]
theorem cs_PIr {g : Nat → Int32} {x3 : Int32} {i z n d : Nat} (h : cs_PI g x3 i z pk) (hn : 2 ≤ n) (hd1 : 1 ≤ d) (hdi : d ≤ i) (hi : i + n ≤ 16) (hg : ∀ k, i ≤ k → k < i + n → g k = g (k - d)) :
    cs_PI g (-1) (i + n) (z + 1) (upd pk z (nI (16 + (n - 2) * 15 + d - 1))) := by
  obtain ⟨h1, r, h2⟩ := cs_PIc h (by omega)
  refine Or.inl ⟨rfl, by omega, r + 1, cs_ChS r (cs_ChC (fun _ _ => rfl) r h2 (fun k _ hk => pk_un (by omega))) (Or.inr ⟨n, d, hn, hd1, by omega, hdi, pk_us, rfl, rfl, hi, hg⟩)⟩
theorem cs_p131 {post : SX → Prop} {J : Int32 → Int32 → Int32 → Int32 → Int32 → (Nat → Int32) → (Nat → Int32) → (Nat → Int32) → (Nat → Int32) → (Nat → Int32) → (Nat → Int32) → (Nat → Int32) → (Nat → Int32) → (Nat → Int32) → (Nat → Int32) → (Nat → Int32) → (Nat → Int32) → (Nat → Int32) → (Nat → Int32) → Prop}
    {f a i rd z : Nat} (hf : f < 3) (ha : a < 24) (hi : i < 16) (hz : z < 24)
    (h : J (nI a) (nI (i + 1)) (nI (rd + 1)) ck (nI (z + 1)) kd pl fr fp fs po pp ps pt sl sp (upd (upd pk a (pk a + 1)) z (fr (f * 16 + i))) pn he) :
    wX_pack_131 post J (nI (f * 16)) (nI a) (nI i) (nI rd) ck (nI z) kd pl fr fp fs po pp ps pt sl sp pk pn he := by
  refine And.intro (vp_in_nI ha (by decide)) (And.intro (vp_in_nI ha (by decide)) (nm_r (e' := upd pk a (pk a + 1)) (by rw [nI_clamp (by omega)]) (And.intro (pk_in (f * 16 + i) 48 (by omega) (nI_add _ _)) ?_)))
  have c1 : (nI (f * 16) + nI i).toNatClampNeg = f * 16 + i := pk_cl _ (nI_add _ _)
  rw [c1]
  exact cs_append hz (nm_r (nI_1 i) (nm_r (nI_1 rd) h))
theorem cs_p41x {post : SX → Prop} {J : Int32 → Int32 → Int32 → Int32 → Int32 → (Nat → Int32) → (Nat → Int32) → (Nat → Int32) → (Nat → Int32) → (Nat → Int32) → (Nat → Int32) → (Nat → Int32) → (Nat → Int32) → (Nat → Int32) → (Nat → Int32) → (Nat → Int32) → (Nat → Int32) → (Nat → Int32) → (Nat → Int32) → Prop}
    {f i rd z n best bb : Nat} {x3 : Int32} (hf : f < 3) (hi : i < 16) (hI : cs_PI (fun k => fr (f * 16 + k)) x3 i z pk)
    (hb : best = 0 ∨ (1 ≤ bb ∧ bb ≤ i ∧ i + best ≤ 16 ∧ ∀ k, i ≤ k → k < i + best → fr (f * 16 + k) = fr (f * 16 + (k - bb))))
    (K : ∀ x3' i' z' pk', i < i' → i' ≤ 16 → cs_PI (fun k => fr (f * 16 + k)) x3' i' z' pk' → J x3' (nI i') (nI (rd + 1)) ck (nI z') kd pl fr fp fs po pp ps pt sl sp pk' pn he) :
    wX_pack_41 post J (nI (f * 16)) x3 (nI i) (nI rd) ck (nI z) kd pl fr fp fs po pp ps pt sl sp pk pn he (n + 1) (nI best) (nI bb) (nI (i + 1)) := by
  refine br_t (nI_lt (by omega) (by omega)) ?_
  have hbb : best ≤ 16 := by omega
  refine pk_lt best 2 (fun h => ?_) (fun h => ?_)
  · rcases hI with ⟨e3, hzi, r, hC⟩ | ⟨a, m, i0, r, e3, h2, h3, h4, h5, h6, h7⟩
    · subst e3
      refine br_f (by decide) (cs_append (by omega) ?_)
      exact cs_p131 hf (by omega) hi (by omega) (K _ _ _ _ (by omega) (by omega) (cs_PIn hzi hC))
    · subst e3
      refine br_t (nI_pos' (by omega)) ?_
      exact cs_p131 hf (by omega) hi (by omega) (K _ _ _ _ (by omega) (by omega) (cs_PIm h2 h3 h4 h5 h6 h7))
  · have hz := (cs_PIc hI (by omega)).1
    rcases hb with hb | ⟨b1, b2, b3, b4⟩
    · omega
    · have e : (16 + (nI best - 2) * 15) + nI bb - 1 = nI (16 + (best - 2) * 15 + bb - 1) := by
        have e1 : nI best - 2 = nI (best - 2) := pk_sub (b := 2) h
        have e2 : nI (best - 2) * 15 = nI ((best - 2) * 15) := pk_mul _ 15
        have e3 : 16 + nI ((best - 2) * 15) = nI (16 + (best - 2) * 15) := nI_add 16 _
        rw [e1, e2, e3, nI_add]
        exact pk_sub (b := 1) (by omega)
      rw [e]
      refine cs_append (by omega) ?_
      exact nm_r (nI_add i best) (nm_r (nI_1 rd) (K _ _ _ _ (by omega) b3 (cs_PIr hI h b1 b2 b3 b4)))
theorem cs_p41 {post : SX → Prop} {J : Int32 → Int32 → Int32 → Int32 → Int32 → (Nat → Int32) → (Nat → Int32) → (Nat → Int32) → (Nat → Int32) → (Nat → Int32) → (Nat → Int32) → (Nat → Int32) → (Nat → Int32) → (Nat → Int32) → (Nat → Int32) → (Nat → Int32) → (Nat → Int32) → (Nat → Int32) → (Nat → Int32) → Prop}
    {f i rd z : Nat} {x3 : Int32} (hf : f < 3) (hi : i < 16) (hI : cs_PI (fun k => fr (f * 16 + k)) x3 i z pk)
    (K : ∀ x3' i' z' pk', i < i' → i' ≤ 16 → cs_PI (fun k => fr (f * 16 + k)) x3' i' z' pk' → J x3' (nI i') (nI (rd + 1)) ck (nI z') kd pl fr fp fs po pp ps pt sl sp pk' pn he) :
    ∀ d y n best bb, y + d = i + 1 → 1 ≤ y → d < n → best ≤ 16 → (best = 0 ∨ (1 ≤ bb ∧ bb ≤ i ∧ i + best ≤ 16 ∧ ∀ k, i ≤ k → k < i + best → fr (f * 16 + k) = fr (f * 16 + (k - bb)))) →
    wX_pack_41 post J (nI (f * 16)) x3 (nI i) (nI rd) ck (nI z) kd pl fr fp fs po pp ps pt sl sp pk pn he n (nI best) (nI bb) (nI y) := by
  intro d
  induction d with
  | zero =>
    intro y n best bb hy h1 hn _ hb
    obtain ⟨n, rfl⟩ : ∃ m, n = m + 1 := ⟨n - 1, by omega⟩
    have e : y = i + 1 := by omega
    subst e
    exact cs_p41x hf hi hI hb K
  | succ d ih =>
    intro y n best bb hy h1 hn hb16 hb
    obtain ⟨n, rfl⟩ : ∃ m, n = m + 1 := ⟨n - 1, by omega⟩
    refine br_f (nI_nlt (by omega) (by omega)) (cs_repeatAt hf hi h1 (by omega) (fun r hr hm => ?_))
    refine pk_le r best (fun h => nm_r (nI_1 y) (ih (y + 1) n best bb (by omega) (by omega) (by omega) hb16 hb)) (fun h => nm_r (nI_1 y) (ih (y + 1) n r y (by omega) (by omega) (by omega) (by omega) (Or.inr ⟨h1, by omega, hr, hm⟩)))
theorem cs_p18 {post : SX → Prop} {f : Nat} (hf : f < 3) (K : ∀ z pk', z ≤ 17 → (∃ r, cs_Ch pk' (fun k => fr (f * 16 + k)) r 0 0 z 16) → post (ck, nI z, kd, pl, fr, fp, fs, po, pp, ps, pt, sl, sp, pk', pn, he)) :
    ∀ n i rd x3 z pk, i ≤ 16 → 16 - i < n → rd ≤ i → cs_PI (fun k => fr (f * 16 + k)) x3 i z pk → wX_pack_18 post (nI (f * 16)) n x3 (nI i) (nI rd) ck (nI z) kd pl fr fp fs po pp ps pt sl sp pk pn he := by
  intro n
  induction n with
  | zero =>
    intro i rd x3 z pk hi hn
    omega
  | succ n ih =>
    intro i rd x3 z pk hi hn hr hI
    by_cases e : i = 16
    · subst e
      obtain ⟨h1, h2⟩ := cs_PIc hI (by omega)
      have KP := K z pk h1 h2
      exact br_c (fun _ => KP) (fun _ => br_t (nI_le (a := 16) (by omega) (by omega)) KP)
    · refine br_f (nI_ge (b := 16) (by omega) (by omega)) (br_f (nI_ge (b := 16) (by omega) (by omega)) (Exists.intro (i + 1) ?_))
      exact cs_p41 hf (by omega) hI (fun x3' i' z' pk' h1 h2 h3 => ih i' (rd + 1) x3' z' pk' h2 (by omega) (by omega) h3) i 1 (i + 1) 0 0 (by omega) (by omega) (by omega) (by omega) (Or.inl rfl)
theorem cs_pack {post : SX → Prop} {f : Nat} (hf : f < 3) (K : ∀ z pk', z ≤ 17 → (∃ r, cs_Ch pk' (fun k => fr (f * 16 + k)) r 0 0 z 16) → post (ck, nI z, kd, pl, fr, fp, fs, po, pp, ps, pt, sl, sp, pk', pn, he)) : wpX_pack post (ck, pz, kd, pl, fr, fp, fs, po, pp, ps, pt, sl, sp, pk, pn, he) (nI f) := by
  refine nm_r (pk_mul f 16) (Exists.intro 17 ?_)
  exact cs_p18 hf K 17 0 0 (-1) 0 pk (by omega) (by omega) (by omega) (Or.inl ⟨rfl, by omega, 0, rfl, rfl⟩)
end
end
section
section
variable {ck pz : Int32} {kd pl fr fp fs po pp ps pt sl sp pk pn he : Nat → Int32}
theorem cs_repL3 {post : SX → Prop} {i m d : Nat} {g : Nat → Int32} (hd1 : 1 ≤ d) (hd : d ≤ i) (hi : i + m ≤ 16) (hg : ∀ k, i ≤ k → k < i + m → g k = g (k - d))
    (K : ∀ pn', (∀ j, j < i + m → pn' j = g j) → post (ck, pz, kd, pl, fr, fp, fs, po, pp, ps, pt, sl, sp, pk, pn', he)) :
    ∀ e k n pn, k + e = i + m → i ≤ k → e < n → (∀ j, j < k → pn j = g j) → wX_repeat_3 post (nI i) (nI m) (nI d) ck pz n (nI k) kd pl fr fp fs po pp ps pt sl sp pk pn he := by
  intro e
  induction e with
  | zero =>
    intro k n pn hk hik hn hp
    obtain ⟨n, rfl⟩ : ∃ m, n = m + 1 := ⟨n - 1, by omega⟩
    refine br_t (by rw [nI_add]; exact nI_le (by omega) (by omega)) (K pn (fun j hj => hp j (by omega)))
  | succ e ih =>
    intro k n pn hk hik hn hp
    obtain ⟨n, rfl⟩ : ∃ m, n = m + 1 := ⟨n - 1, by omega⟩
    refine br_f (by rw [nI_add]; exact nI_ge (by omega) (by omega)) (br_f (nI_ge (b := 16) (by omega) (by omega)) (br_f (nI_nlt (by omega) (by omega)) ?_))
    have e1 : nI k - nI d = nI (k - d) := pk_sub (by omega)
    refine And.intro (pk_in (k - d) 16 (by omega) e1) (And.intro (vp_in_nI (by omega) (by decide)) ?_)
    refine nm_r (e' := upd pn k (g k)) (by rw [e1, nI_clamp (by omega), nI_clamp (by omega), hp (k - d) (by omega), hg k hik (by omega)]) (nm_r (nI_1 k) (ih (k + 1) n _ (by omega) (by omega) (by omega) (fun j hj => ?_)))
    by_cases ej : j = k
    · rw [ej, pk_us]
    · rw [pk_un ej]
      exact hp j (by omega)
theorem cs_repeat {post : SX → Prop} {i m d : Nat} {g : Nat → Int32} (hd1 : 1 ≤ d) (hd : d ≤ i) (hi : i + m ≤ 16) (hg : ∀ k, i ≤ k → k < i + m → g k = g (k - d))
    (hp : ∀ j, j < i → pn j = g j) (K : ∀ pn', (∀ j, j < i + m → pn' j = g j) → post (ck, pz, kd, pl, fr, fp, fs, po, pp, ps, pt, sl, sp, pk, pn', he)) : wpX_repeat post (ck, pz, kd, pl, fr, fp, fs, po, pp, ps, pt, sl, sp, pk, pn, he) (nI i) (nI m) (nI d) :=
  Exists.intro (m + 1) (cs_repL3 hd1 hd hi hg K m i (m + 1) pn rfl (Nat.le_refl i) (Nat.lt_succ_self m) hp)
theorem cs_un57 {post : SX → Prop} {J : Int32 → Int32 → Int32 → Int32 → Int32 → (Nat → Int32) → (Nat → Int32) → (Nat → Int32) → (Nat → Int32) → (Nat → Int32) → (Nat → Int32) → (Nat → Int32) → (Nat → Int32) → (Nat → Int32) → (Nat → Int32) → (Nat → Int32) → (Nat → Int32) → (Nat → Int32) → (Nat → Int32) → Prop}
    {B t i m rd : Nat} {g : Nat → Int32} (K : ∀ pn', (∀ j, j < i + (m + 1) → pn' j = g j) → J (nI (t + (m + 1))) (nI (i + (m + 1))) (nI (rd + 1)) ck pz kd pl fr fp fs po pp ps pt sl sp pk pn' he)
    (hB : B + t + m + 1 ≤ 64) (hi : i + m + 1 ≤ 16) (hg : ∀ k, k ≤ m → po (B + (t + k)) = g (i + k)) :
    ∀ d k n pn, k + d = m + 1 → d < n → (∀ j, j < i + k → pn j = g j) → wX_unpack_57 post J (nI B) (nI rd) (nI m) ck pz n (nI (t + k)) (nI (i + k)) (nI k) kd pl fr fp fs po pp ps pt sl sp pk pn he := by
  intro d
  induction d with
  | zero =>
    intro k n pn hk hn hp
    obtain ⟨n, rfl⟩ : ∃ m, n = m + 1 := ⟨n - 1, by omega⟩
    have e : k = m + 1 := by omega
    subst e
    exact br_t (nI_lt (by omega) (by omega)) (nm_r (nI_1 rd) (K pn hp))
  | succ d ih =>
    intro k n pn hk hn hp
    obtain ⟨n, rfl⟩ : ∃ m, n = m + 1 := ⟨n - 1, by omega⟩
    have e1 : nI B + nI (t + k) = nI (B + (t + k)) := nI_add _ _
    have c1 : (nI B + nI (t + k)).toNatClampNeg = B + (t + k) := pk_cl _ e1
    refine br_f (nI_nlt (by omega) (by omega)) (br_f (nI_ge (b := 16) (by omega) (by omega)) (And.intro (pk_in _ 64 (by omega) e1) (And.intro (vp_in_nI (by omega) (by decide)) ?_)))
    refine nm_r (e' := upd pn (i + k) (g (i + k))) (by rw [c1, nI_clamp (by omega), hg k (by omega)]) (nm_r (nI_1 _) (nm_r (nI_1 _) (nm_r (nI_1 _) (ih (k + 1) n _ (by omega) (by omega) (fun j hj => ?_)))))
    by_cases ej : j = i + k
    · rw [ej, pk_us]
    · rw [pk_un ej]
      exact hp j (by omega)
theorem cs_un14 {post : SX → Prop} {B z : Nat} {g : Nat → Int32} (hz : z < 16) (hB : B + z ≤ 64) (K : ∀ pn', (∀ j, j < 16 → pn' j = g j) → post (ck, pz, kd, pl, fr, fp, fs, po, pp, ps, pt, sl, sp, pk, pn', he)) :
    ∀ r t i rd n pn, cs_Ch (fun k => po (B + k)) g r t i z 16 → r < n → rd + r ≤ 16 → (∀ j, j < i → pn j = g j) → wX_unpack_14 post (nI B) n (nI t) (nI i) (nI rd) ck pz kd pl fr fp fs po pp ps pt sl sp pk pn he := by
  intro r
  induction r with
  | zero =>
    intro t i rd n pn hC hn hr hp
    obtain ⟨n, rfl⟩ : ∃ m, n = m + 1 := ⟨n - 1, by omega⟩
    obtain ⟨e1, e2⟩ := hC
    subst e2
    have KP := K pn hp
    exact br_c (fun _ => KP) (fun _ => br_t (nI_le (a := 16) (by omega) (by omega)) KP)
  | succ r ih =>
    intro t i rd n pn hC hn hr hp
    obtain ⟨n, rfl⟩ : ∃ m, n = m + 1 := ⟨n - 1, by omega⟩
    obtain ⟨t1, i1, hT, hC⟩ := hC
    have m1 := cs_TokM hT
    have m2 := cs_ChM r hC
    have e1 : nI B + nI t = nI (B + t) := nI_add _ _
    have c1 : (nI B + nI t).toNatClampNeg = B + t := pk_cl _ e1
    refine br_f (nI_ge (b := 16) (by omega) (by omega)) (br_f (nI_ge (b := 16) (by omega) (by omega)) (br_f (nI_ge (b := 16) (by omega) (by omega)) (And.intro (pk_in _ 64 (by omega) e1) ?_)))
    rw [c1]
    rcases hT with ⟨m, ha, ht1, hi1, hi16, hg⟩ | ⟨n2, d, h2, hd1, hd15, hdi, ha, ht1, hi1, hi16, hg⟩
    · refine nm_r (e' := nI m) ha (nm_r (nI_1 t) (br_f (nI_ge (b := 16) (by omega) (by omega)) (Exists.intro (m + 2) ?_)))
      have q1 : t + 1 + (m + 1) = t1 := by omega
      have q2 : i + (m + 1) = i1 := by omega
      refine cs_un57 (t := t + 1) (i := i) (m := m) (rd := rd) (g := g) (fun pn' hp' => ?_) (by omega) (by omega) (fun k hk => hg k hk) (m + 1) 0 (m + 2) pn (by omega) (by omega) hp
      rw [q1, q2]
      rw [q2] at hp'
      exact ih t1 i1 (rd + 1) n pn' hC (by omega) (by omega) hp'
    · have q16 : 16 + (n2 - 2) * 15 + d - 1 - 16 = (n2 - 2) * 15 + (d - 1) := by omega
      have qs : nI (16 + (n2 - 2) * 15 + d - 1) - 16 = nI ((n2 - 2) * 15 + (d - 1)) := by
        rw [← q16]
        exact pk_sub (b := 16) (by omega)
      have qd : ((n2 - 2) * 15 + (d - 1)) / 15 + 2 = n2 := by omega
      have qm : ((n2 - 2) * 15 + (d - 1)) % 15 + 1 = d := by omega
      have E1 : (nI (16 + (n2 - 2) * 15 + d - 1) - 16) / 15 + 2 = nI n2 := by
        rw [qs]
        have a : nI ((n2 - 2) * 15 + (d - 1)) / 15 = nI (((n2 - 2) * 15 + (d - 1)) / 15) := pk_div (d := 15) (by omega) (by decide) (by decide)
        rw [a]
        have b : nI (((n2 - 2) * 15 + (d - 1)) / 15) + 2 = nI (((n2 - 2) * 15 + (d - 1)) / 15 + 2) := nI_add _ 2
        rw [b, qd]
      have E2 : (nI (16 + (n2 - 2) * 15 + d - 1) - 16) - (nI (16 + (n2 - 2) * 15 + d - 1) - 16) / 15 * 15 + 1 = nI d := by
        rw [qs]
        have a : nI ((n2 - 2) * 15 + (d - 1)) - nI ((n2 - 2) * 15 + (d - 1)) / 15 * 15 = nI (((n2 - 2) * 15 + (d - 1)) % 15) := pk_rem (d := 15) (by omega) (by decide) (by decide)
        rw [a, nI_1, qm]
      refine nm_r (e' := nI (16 + (n2 - 2) * 15 + d - 1)) ha (nm_r (nI_1 t) (br_t (nI_le (a := 16) (by omega) (by omega)) (And.intro (by decide) (nm_r E1 (And.intro (by decide) (nm_r E2 ?_))))))
      refine cs_repeat hd1 hdi (by omega) (fun k h h' => hg k h (by omega)) hp (fun pn' hp' => ?_)
      refine nm_r (nI_add i n2) (nm_r (nI_1 rd) ?_)
      rw [← hi1] at hp' ⊢
      rw [← ht1]
      exact ih t1 i1 (rd + 1) n pn' hC (by omega) (by omega) hp'
theorem cs_baseOf {post : Int32 → Prop} {e z : Nat} (he8 : e < 8) (hz : z ≤ 16) (hs : ps e = nI z) (h : post (nI (cs_base e z))) : wpX_baseOf post (ck, pz, kd, pl, fr, fp, fs, po, pp, ps, pt, sl, sp, pk, pn, he) (nI e) := by
  have a1 : nI e >>> ((1 : Int32) &&& 31) = nI (e / 2) := pk_shrN (by omega) _ 1 (by decide)
  have a2 : nI (e / 2) * 16 = nI (e / 2 * 16) := pk_mul _ 16
  have a3 : nI e &&& 1 = nI (e % 2) := pk_andN (by omega) 1 (by decide)
  refine nm_r (e' := nI (e / 2 * 16)) (by rw [a1, a2]) ?_
  unfold cs_base at h
  refine pk_eq (e % 2) 1 (fun q => And.intro (vp_in_nI he8 (by decide)) (nm_r (e' := nI (e / 2 * 16 + (16 - z))) ?_ ?_)) (fun q => ?_) a3
  · have b1 : nI (e / 2 * 16) + 16 = nI (e / 2 * 16 + 16) := nI_add _ 16
    have b2 : e / 2 * 16 + 16 - z = e / 2 * 16 + (16 - z) := by omega
    rw [nI_clamp (by omega), hs, b1, pk_sub (by omega), b2]
  · rw [if_pos q] at h
    exact h
  · rw [if_neg q] at h
    exact h
theorem cs_unpack {post : SX → Prop} {e z : Nat} {g : Nat → Int32} (he8 : e < 8) (hz : z < 16) (hs : ps e = nI z) (hd : cs_Dec po (cs_base e z) z g)
    (K : ∀ pn', (∀ j, j < 16 → pn' j = g j) → post (ck, pz, kd, pl, fr, fp, fs, po, pp, ps, pt, sl, sp, pk, pn', he)) : wpX_unpack post (ck, pz, kd, pl, fr, fp, fs, po, pp, ps, pt, sl, sp, pk, pn, he) (nI e) := by
  unfold wpX_unpack
  refine cs_baseOf he8 (by omega) hs ?_
  obtain ⟨r, hC⟩ := hd
  have m := cs_ChM r hC
  have hB : cs_base e z + z ≤ 64 := by
    unfold cs_base
    split <;> omega
  exact Exists.intro (r + 1) (cs_un14 hz hB K r 0 0 0 (r + 1) pn hC (by omega) (by omega) (fun j hj => absurd hj (by omega)))
end
end
section
theorem cs_ua (a : Nat → Int32) {p : Nat} (hp : p < 2 ^ 31) (v : Int32) : upd a (nI p).toNatClampNeg v = upd a p v := by rw [nI_clamp hp]
def cs_Ow (ow : Nat → Int32) (N : Nat) : Prop := ∀ e, e < N → ow e = -1 ∨ ∃ p, p < 12 ∧ ow e = nI p
def cs_hl (pp : Nat → Int32) (f : Nat) : Nat := (if pp (f * 2) = -1 then 0 else 1) + (if pp (f * 2 + 1) = -1 then 0 else 1)
theorem cs_hl2 (pp : Nat → Int32) (f : Nat) : cs_hl pp f ≤ 2 := by
  unfold cs_hl
  split <;> split <;> omega
def cs_rm (pp ps : Nat → Int32) (f : Nat) : Int32 := if pp (f * 2 + 1) = -1 then (if pp (f * 2) = -1 then 16 else 16 - ps (f * 2)) else (if pp (f * 2) = -1 then 16 else 16 - ps (f * 2)) - ps (f * 2 + 1)
def cs_Fit (pp ps : Nat → Int32) (z f : Nat) : Prop :=
  (pp (f * 2) ≠ -1 → pp (f * 2 + 1) = -1) ∧ (pp (f * 2) ≠ -1 → ∃ y, y < 16 ∧ ps (f * 2) = nI y ∧ y + z ≤ 16) ∧ (pp (f * 2 + 1) ≠ -1 → ∃ y, y < 16 ∧ ps (f * 2 + 1) = nI y ∧ y + z ≤ 16)
theorem cs_hl0 {pp : Nat → Int32} {f : Nat} (h : cs_hl pp f = 0) : pp (f * 2) = -1 ∧ pp (f * 2 + 1) = -1 := by
  unfold cs_hl at h
  by_cases w1 : pp (f * 2) = -1
  · by_cases w2 : pp (f * 2 + 1) = -1
    · exact ⟨w1, w2⟩
    · rw [if_neg w2] at h
      omega
  · rw [if_neg w1] at h
    omega
theorem cs_fit0 {pp ps : Nat → Int32} {z f : Nat} (h1 : pp (f * 2) = -1) (h2 : pp (f * 2 + 1) = -1) : cs_Fit pp ps z f :=
  ⟨fun h => absurd h1 h, fun h => absurd h1 h, fun h => absurd h2 h⟩
theorem cs_fit1 {pp ps : Nat → Int32} {z f : Nat} (hf : f < 4) (h : cs_hl pp f = 1) (hps : ∀ e, e < 8 → pp e ≠ -1 → ∃ y, y < 16 ∧ ps e = nI y) (hz : z < 16) (hr : ¬ cs_rm pp ps f < nI z) : cs_Fit pp ps z f := by
  unfold cs_hl at h
  unfold cs_rm at hr
  by_cases w1 : pp (f * 2) = -1
  · by_cases w2 : pp (f * 2 + 1) = -1
    · rw [if_pos w1, if_pos w2] at h
      omega
    · rw [if_neg w2, if_pos w1] at hr
      obtain ⟨y, hy, hs⟩ := hps (f * 2 + 1) (by omega) w2
      have e : (16 : Int32) - nI y = nI (16 - y) := pk_sub (a := 16) (by omega)
      rw [hs, e, nI_ltI (by omega) (by omega)] at hr
      exact ⟨fun q => absurd w1 q, fun q => absurd w1 q, fun _ => ⟨y, hy, hs, by omega⟩⟩
  · by_cases w2 : pp (f * 2 + 1) = -1
    · rw [if_pos w2, if_neg w1] at hr
      obtain ⟨y, hy, hs⟩ := hps (f * 2) (by omega) w1
      have e : (16 : Int32) - nI y = nI (16 - y) := pk_sub (a := 16) (by omega)
      rw [hs, e, nI_ltI (by omega) (by omega)] at hr
      exact ⟨fun _ => w2, fun _ => ⟨y, hy, hs, by omega⟩, fun q => absurd w2 q⟩
    · rw [if_neg w1, if_neg w2] at h
      omega
section
variable {ck pz : Int32} {kd pl fr fp fs po pp ps pt sl sp pk pn he : Nat → Int32}
theorem cs_held {post : Int32 → Prop} {f : Nat} (hf : f < 4) (hpp : cs_Ow pp 8) (h : post (nI (cs_hl pp f))) : wpX_held post (ck, pz, kd, pl, fr, fp, fs, po, pp, ps, pt, sl, sp, pk, pn, he) (nI f) := by
  have e1 : nI f * 2 = nI (f * 2) := pk_mul f 2
  have e2 : nI f * 2 + 1 = nI (f * 2 + 1) := by rw [e1, nI_1]
  have c1 : (nI f * 2).toNatClampNeg = f * 2 := pk_cl _ e1
  have c2 : (nI f * 2 + 1).toNatClampNeg = f * 2 + 1 := pk_cl _ e2
  have n1 := cs_neg (hpp (f * 2) (by omega))
  have n2 := cs_neg (hpp (f * 2 + 1) (by omega))
  have T : ∀ z0 : Int32, (pp (f * 2 + 1) = -1 → post z0) → (pp (f * 2 + 1) ≠ -1 → post (z0 + 1)) → wX_held_16 post (nI f) z0 ck pz kd pl fr fp fs po pp ps pt sl sp pk pn he := by
    intro z0 ha hb
    refine And.intro (pk_in _ 8 (by omega) e2) ?_
    rw [c2]
    exact br_c (fun q => ha (n2.mp q)) (fun q => hb (fun w => q (n2.mpr w)))
  unfold cs_hl at h
  refine And.intro (pk_in _ 8 (by omega) e1) ?_
  rw [c1]
  refine br_c (fun q => T 0 (fun w => ?_) (fun w => ?_)) (fun q => T 1 (fun w => ?_) (fun w => ?_))
  · rw [if_pos (n1.mp q), if_pos w] at h
    exact h
  · rw [if_pos (n1.mp q), if_neg w] at h
    rw [show (0 : Int32) + 1 = nI 1 from by decide]
    exact h
  · rw [if_neg (fun w => q (n1.mpr w)), if_pos w] at h
    exact h
  · rw [if_neg (fun w => q (n1.mpr w)), if_neg w] at h
    rw [show (1 : Int32) + 1 = nI 2 from by decide]
    exact h
theorem cs_roomIn {post : Int32 → Prop} {f : Nat} (hf : f < 4) (hpp : cs_Ow pp 8) (h : post (cs_rm pp ps f)) : wpX_roomIn post (ck, pz, kd, pl, fr, fp, fs, po, pp, ps, pt, sl, sp, pk, pn, he) (nI f) := by
  have e1 : nI f * 2 = nI (f * 2) := pk_mul f 2
  have e2 : nI f * 2 + 1 = nI (f * 2 + 1) := by rw [e1, nI_1]
  have c1 : (nI f * 2).toNatClampNeg = f * 2 := pk_cl _ e1
  have c2 : (nI f * 2 + 1).toNatClampNeg = f * 2 + 1 := pk_cl _ e2
  have n1 := cs_neg (hpp (f * 2) (by omega))
  have n2 := cs_neg (hpp (f * 2 + 1) (by omega))
  have T : ∀ x2 : Int32, (pp (f * 2 + 1) = -1 → post x2) → (pp (f * 2 + 1) ≠ -1 → post (x2 - ps (f * 2 + 1))) → wX_roomIn_25 post (nI f) x2 ck pz kd pl fr fp fs po pp ps pt sl sp pk pn he := by
    intro x2 ha hb
    refine And.intro (pk_in _ 8 (by omega) e2) ?_
    rw [c2]
    exact br_c (fun q => ha (n2.mp q)) (fun q => And.intro (pk_in _ 8 (by omega) e2) (nm_e (hb (fun w => q (n2.mpr w)))))
  unfold cs_rm at h
  refine And.intro (pk_in _ 8 (by omega) e1) ?_
  rw [c1]
  refine br_c (fun q => T 16 (fun w => ?_) (fun w => ?_)) (fun q => And.intro (pk_in _ 8 (by omega) e1) (nm_e (T (16 - ps (f * 2)) (fun w => ?_) (fun w => ?_))))
  · rw [if_pos w, if_pos (n1.mp q)] at h
    exact h
  · rw [if_neg w, if_pos (n1.mp q)] at h
    exact h
  · rw [if_pos w, if_neg (fun w => q (n1.mpr w))] at h
    exact h
  · rw [if_neg w, if_neg (fun w => q (n1.mpr w))] at h
    exact h
theorem cs_pf63 {post : Int32 → Prop} {z : Nat} {x3 : Int32} (hpp : cs_Ow pp 8) (K1 : ∀ f, f < 4 → cs_Fit pp ps z f → post (nI f)) (K2 : (∀ f, f < 4 → cs_hl pp f ≠ 0) → post (-1)) :
    ∀ k n x2, k ≤ 4 → k < n → ((∃ f, f < 4 ∧ x2 = nI f ∧ cs_Fit pp ps z f) ∨ (x3 = 100 ∧ x2 = -1 ∧ ∀ f, k ≤ f → f < 4 → cs_hl pp f ≠ 0)) → wX_poolFrame_63 post x3 ck pz kd pl fr fp fs po pp ps pt sl sp pk pn he n x2 (cs_dn k) := by
  intro k
  induction k with
  | zero =>
    intro n x2 hk hn hI
    obtain ⟨n, rfl⟩ : ∃ m, n = m + 1 := ⟨n - 1, by omega⟩
    refine br_t (by decide) ?_
    rcases hI with ⟨f, hf, e, hF⟩ | ⟨_, e, hF⟩
    · rw [e]
      exact K1 f hf hF
    · rw [e]
      exact K2 (fun f hf => hF f (by omega) hf)
  | succ k ih =>
    intro n x2 hk hn hI
    obtain ⟨n, rfl⟩ : ∃ m, n = m + 1 := ⟨n - 1, by omega⟩
    have h2 := cs_hl2 pp k
    refine br_f (nI_pos (n := k) (by omega)) (cs_held (f := k) (by omega) hpp ?_)
    refine pk_eq (cs_hl pp k) 0 (fun e0 => br_c (fun hx => nm_r (cs_dnE k) (ih n (nI k) (by omega) (by omega) (Or.inl ⟨k, by omega, rfl, cs_fit0 (cs_hl0 e0).1 (cs_hl0 e0).2⟩))) (fun hx => nm_r (cs_dnE k) (ih n x2 (by omega) (by omega) ?_))) (fun ne => nm_r (cs_dnE k) (ih n x2 (by omega) (by omega) ?_))
    · rcases hI with h | ⟨h, _⟩
      · exact Or.inl h
      · exact absurd h hx
    · rcases hI with h | ⟨a, b, h⟩
      · exact Or.inl h
      · refine Or.inr ⟨a, b, fun f h1 h2 => ?_⟩
        by_cases e : f = k
        · rw [e]
          exact ne
        · exact h f (by omega) h2
theorem cs_pf8 {post : Int32 → Prop} {z : Nat} (hz : z < 16) (hpp : cs_Ow pp 8) (hps : ∀ e, e < 8 → pp e ≠ -1 → ∃ y, y < 16 ∧ ps e = nI y) (K1 : ∀ f, f < 4 → cs_Fit pp ps z f → post (nI f)) (K2 : (∀ f, f < 4 → cs_hl pp f ≠ 0) → post (-1)) :
    ∀ d k n x2 x3, k + d = 4 → d < n → ((∃ f, f < 4 ∧ x2 = nI f ∧ cs_Fit pp ps z f) ∨ (x3 = 100 ∧ x2 = -1)) → wX_poolFrame_8 post (nI z) ck pz kd pl fr fp fs po pp ps pt sl sp pk pn he n x2 x3 (nI k) := by
  intro d
  induction d with
  | zero =>
    intro k n x2 x3 hk hn hI
    obtain ⟨n, rfl⟩ : ∃ m, n = m + 1 := ⟨n - 1, by omega⟩
    refine br_t (nI_le (a := 4) (by omega) (by omega)) (Exists.intro 5 ?_)
    refine cs_pf63 hpp K1 K2 4 5 x2 (by omega) (by omega) ?_
    rcases hI with h | ⟨a, b⟩
    · exact Or.inl h
    · exact Or.inr ⟨a, b, fun f h1 h2 => absurd h2 (by omega)⟩
  | succ d ih =>
    intro k n x2 x3 hk hn hI
    obtain ⟨n, rfl⟩ : ∃ m, n = m + 1 := ⟨n - 1, by omega⟩
    have h2 := cs_hl2 pp k
    have skip := ih (k + 1) n x2 x3 (by omega) (by omega) hI
    refine br_f (nI_ge (b := 4) (by omega) (by omega)) (cs_held (f := k) (by omega) hpp (cs_roomIn (f := k) (by omega) hpp ?_))
    exact pk_eq (cs_hl pp k) 1 (fun e1 => br_c (fun _ => nm_r (nI_1 k) skip) (fun hr => br_c (fun _ => nm_r (nI_1 k) skip) (fun _ => nm_r (nI_1 k) (ih (k + 1) n _ _ (by omega) (by omega) (Or.inl ⟨k, by omega, rfl, cs_fit1 (by omega) e1 hps hz hr⟩))))) (fun _ => nm_r (nI_1 k) skip)
theorem cs_poolFrame {post : Int32 → Prop} {z : Nat} (hz : z < 16) (hpp : cs_Ow pp 8) (hps : ∀ e, e < 8 → pp e ≠ -1 → ∃ y, y < 16 ∧ ps e = nI y) (K1 : ∀ f, f < 4 → cs_Fit pp ps z f → post (nI f)) (K2 : (∀ f, f < 4 → cs_hl pp f ≠ 0) → post (-1)) :
    wpX_poolFrame post (ck, pz, kd, pl, fr, fp, fs, po, pp, ps, pt, sl, sp, pk, pn, he) (nI z) :=
  Exists.intro 5 (cs_pf8 hz hpp hps K1 K2 4 0 5 (-1) 100 rfl (by decide) (Or.inr ⟨rfl, rfl⟩))
theorem cs_op4 {post : Int32 → Prop} (hpp : cs_Ow pp 8) (K1 : ∀ f, f < 4 → post (nI f)) (K2 : (∀ f, f < 4 → cs_hl pp f = 0) → post (-1)) :
    ∀ d k n x1, k + d = 4 → d < n → ((∃ f, f < 4 ∧ x1 = nI f) ∨ (x1 = -1 ∧ ∀ f, f < k → cs_hl pp f = 0)) → wX_oldestPoolFrame_4 post ck pz kd pl fr fp fs po pp ps pt sl sp pk pn he n x1 (nI k) := by
  intro d
  induction d with
  | zero =>
    intro k n x1 hk hn hI
    obtain ⟨n, rfl⟩ : ∃ m, n = m + 1 := ⟨n - 1, by omega⟩
    refine br_t (nI_le (a := 4) (by omega) (by omega)) ?_
    rcases hI with ⟨f, hf, e⟩ | ⟨e, h⟩
    · rw [e]
      exact K1 f hf
    · rw [e]
      exact K2 (fun f hf => h f (by omega))
  | succ d ih =>
    intro k n x1 hk hn hI
    obtain ⟨n, rfl⟩ : ∃ m, n = m + 1 := ⟨n - 1, by omega⟩
    have h2 := cs_hl2 pp k
    have new := ih (k + 1) n (nI k) (by omega) (by omega) (Or.inl ⟨k, by omega, rfl⟩)
    refine br_f (nI_ge (b := 4) (by omega) (by omega)) (cs_held (f := k) (by omega) hpp ?_)
    refine pk_le (cs_hl pp k) 0 (fun h0 => nm_r (nI_1 k) (ih (k + 1) n x1 (by omega) (by omega) ?_)) (fun h0 => br_c (fun _ => nm_r (nI_1 k) new) (fun hx => ?_))
    · rcases hI with h | ⟨e, h⟩
      · exact Or.inl h
      · refine Or.inr ⟨e, fun f hf => ?_⟩
        by_cases ef : f = k
        · rw [ef]
          omega
        · exact h f (by omega)
    · rcases hI with ⟨f, hf, e⟩ | ⟨e, h⟩
      · subst e
        exact And.intro (vp_in_nI (by omega) (by decide)) (And.intro (vp_in_nI hf (by decide)) (br_c (fun _ => nm_r (nI_1 k) (ih (k + 1) n (nI f) (by omega) (by omega) (Or.inl ⟨f, hf, rfl⟩))) (fun _ => nm_r (nI_1 k) new)))
      · subst e
        exact absurd (by decide) hx
theorem cs_oldest {post : Int32 → Prop} (hpp : cs_Ow pp 8) (K1 : ∀ f, f < 4 → post (nI f)) (K2 : (∀ f, f < 4 → cs_hl pp f = 0) → post (-1)) : wpX_oldestPoolFrame post (ck, pz, kd, pl, fr, fp, fs, po, pp, ps, pt, sl, sp, pk, pn, he) :=
  Exists.intro 5 (cs_op4 hpp K1 K2 4 0 5 (-1) rfl (by decide) (Or.inr ⟨rfl, fun f hf => absurd hf (Nat.not_lt_zero f)⟩))
/-! a free slot -/
theorem cs_inc {x : Int32} (h : x.toInt < 100) : (x + 1).toInt = x.toInt + 1 := by
  have a := x.le_toInt
  have e1 : (1 : Int32).toInt = 1 := by decide
  rw [Int32.toInt_add, e1]
  exact Int.bmod_eq_of_le (by omega) (by omega)
theorem cs_fs30 {post : Int32 → Prop} {p : Nat} (hp : p < 12) (hsp : cs_Ow sp 12) (K : ∀ s, s < 12 → sp s = -1 → post (nI s)) :
    ∀ (d : Nat) (x3 : Int32) (n s : Nat), x3.toInt + d = p + 2 → -1 ≤ x3.toInt → d < n → s < 12 → sp s = -1 → wX_freeSlot_30 post (nI p) ck pz kd pl fr fp fs po pp ps pt sl sp pk pn he n (nI s) x3 := by
  intro d
  induction d with
  | zero =>
    intro x3 n s hx hx1 hn hs hsp1
    obtain ⟨n, rfl⟩ : ∃ m, n = m + 1 := ⟨n - 1, by omega⟩
    refine br_t ?_ (K s hs hsp1)
    rw [nI_1, Int32.lt_iff_toInt_lt, nI_toInt (by omega)]
    omega
  | succ d ih =>
    intro x3 n s hx hx1 hn hs hsp1
    obtain ⟨n, rfl⟩ : ∃ m, n = m + 1 := ⟨n - 1, by omega⟩
    have hi := cs_inc (x := x3) (by omega)
    have nx : ∀ s', s' < 12 → sp s' = -1 → wX_freeSlot_30 post (nI p) ck pz kd pl fr fp fs po pp ps pt sl sp pk pn he n (nI s') (x3 + 1) := fun s' h1 h2 => ih (x3 + 1) n s' (by omega) (by omega) (by omega) h1 h2
    have sk := nx s hs hsp1
    refine br_f ?_ (br_c (fun _ => nm_e sk) (fun q0 => br_c (fun _ => nm_e sk) (fun q12 => And.intro ?_ (br_c (fun _ => And.intro ?_ (nm_e (br_c (fun _ => nm_e sk) (fun w0 => br_c (fun _ => nm_e sk) (fun w12 => ?_))))) (fun _ => nm_e sk)))))
    · rw [nI_1, Int32.lt_iff_toInt_lt, nI_toInt (by omega)]
      omega
    · obtain ⟨j, hj, e⟩ := nI_of q0
      have e12 : ¬ nI 12 ≤ nI j := by rw [← e]; exact q12
      rw [nI_leI (by omega) hj] at e12
      rw [e]
      exact vp_in_nI (by omega) (by decide)
    · obtain ⟨j, hj, e⟩ := nI_of q0
      have e12 : ¬ nI 12 ≤ nI j := by rw [← e]; exact q12
      rw [nI_leI (by omega) hj] at e12
      rw [e]
      exact vp_in_nI (by omega) (by decide)
    · obtain ⟨j, hj, e⟩ := nI_of w0
      rw [e] at w12 ⊢
      have e12 : ¬ nI 12 ≤ nI j := w12
      rw [nI_leI (by omega) hj] at e12
      have w := cs_nng (hsp j (by omega))
      refine And.intro (vp_in_nI (by omega) (by decide)) ?_
      rw [nI_clamp hj]
      exact br_c (fun _ => nm_e sk) (fun v => nm_e (nx j (by omega) (Classical.byContradiction fun c => v (w.mpr c))))
theorem cs_fs5 {post : Int32 → Prop} {p : Nat} (hp : p < 12) (hsp : cs_Ow sp 12) (hex : ∃ s, s < 12 ∧ sp s = -1) (K : ∀ s, s < 12 → sp s = -1 → post (nI s)) :
    ∀ k n x2, k ≤ 12 → k < n → ((∃ s, s < 12 ∧ x2 = nI s ∧ sp s = -1) ∨ (∀ s, k ≤ s → s < 12 → sp s ≠ -1)) → wX_freeSlot_5 post (nI p) ck pz kd pl fr fp fs po pp ps pt sl sp pk pn he n x2 (cs_dn k) := by
  intro k
  induction k with
  | zero =>
    intro n x2 hk hn hI
    obtain ⟨n, rfl⟩ : ∃ m, n = m + 1 := ⟨n - 1, by omega⟩
    refine br_t (by decide) (nm_e (Exists.intro 4 ?_))
    have hx : (nI p - 1).toInt = (p : Int) - 1 := pk_sub_toInt (b := 1) (by omega) (by decide)
    rcases hI with ⟨s, hs, e, h⟩ | h
    · subst e
      exact cs_fs30 hp hsp K 3 (nI p - 1) 4 s (by omega) (by omega) (by decide) hs h
    · obtain ⟨s, hs, e⟩ := hex
      exact absurd e (h s (by omega) hs)
  | succ k ih =>
    intro n x2 hk hn hI
    obtain ⟨n, rfl⟩ : ∃ m, n = m + 1 := ⟨n - 1, by omega⟩
    have w := cs_nng (hsp k (by omega))
    refine br_f (nI_pos (n := k) (by omega)) (And.intro (vp_in_nI (n := k) (by omega) (by decide)) ?_)
    have ec : (cs_dn (k + 1)).toNatClampNeg = k := nI_clamp (n := k) (by omega)
    rw [ec]
    refine br_c (fun q => nm_r (cs_dnE k) (ih n x2 (by omega) (by omega) ?_)) (fun q => nm_r (cs_dnE k) (ih n (nI k) (by omega) (by omega) (Or.inl ⟨k, by omega, rfl, Classical.byContradiction fun c => q (w.mpr c)⟩)))
    rcases hI with h | h
    · exact Or.inl h
    · refine Or.inr (fun s h1 h2 => ?_)
      by_cases e : s = k
      · rw [e]
        exact w.mp q
      · exact h s (by omega) h2
theorem cs_freeSlot {post : Int32 → Prop} {p : Nat} (hp : p < 12) (hsp : cs_Ow sp 12) (hex : ∃ s, s < 12 ∧ sp s = -1) (K : ∀ s, s < 12 → sp s = -1 → post (nI s)) : wpX_freeSlot post (ck, pz, kd, pl, fr, fp, fs, po, pp, ps, pt, sl, sp, pk, pn, he) (nI p) :=
  Exists.intro 13 (cs_fs5 hp hsp hex K 12 13 (-1) (by decide) (by decide) (Or.inr (fun s h1 h2 => absurd h2 (by omega))))
theorem cs_ss7 {post : SX → Prop} {s p : Nat} (hs : s < 12) (hp : p < 12) (K : post (ck, pz, upd kd p (nI 3), upd pl p (nI s), fr, fp, fs, po, pp, ps, pt, cs_cp sl (s * 16) pn 16, upd sp s (nI p), pk, pn, he)) :
    ∀ d k n, k + d = 16 → d < n → wX_storeSlot_7 post (nI s) (nI p) ck pz n (nI k) kd pl fr fp fs po pp ps pt (cs_cp sl (s * 16) pn k) sp pk pn he := by
  intro d
  induction d with
  | zero =>
    intro k n hk hn
    obtain ⟨n, rfl⟩ : ∃ m, n = m + 1 := ⟨n - 1, by omega⟩
    have e : k = 16 := by omega
    subst e
    exact br_t (nI_le (a := 16) (by omega) (by omega)) (And.intro (vp_in_nI hs (by decide)) (nm_r (cs_ua sp (by omega) _) (And.intro (vp_in_nI hp (by decide)) (nm_r (cs_ua kd (by omega) (nI 3)) (And.intro (vp_in_nI hp (by decide)) (nm_r (cs_ua pl (by omega) _) K))))))
  | succ d ih =>
    intro k n hk hn
    obtain ⟨n, rfl⟩ : ∃ m, n = m + 1 := ⟨n - 1, by omega⟩
    have e0 : nI s * 16 = nI (s * 16) := pk_mul s 16
    have e1 : nI s * 16 + nI k = nI (s * 16 + k) := by rw [e0, nI_add]
    have c1 : (nI s * 16 + nI k).toNatClampNeg = s * 16 + k := pk_cl _ e1
    exact br_f (nI_ge (b := 16) (by omega) (by omega)) (And.intro (vp_in_nI (by omega) (by decide)) (And.intro (pk_in _ 192 (by omega) e1) (nm_r (e' := cs_cp sl (s * 16) pn (k + 1)) (by rw [c1, nI_clamp (by omega), cs_cpS]) (nm_r (nI_1 k) (ih (k + 1) n (by omega) (by omega))))))
theorem cs_storeSlot {post : SX → Prop} {s p : Nat} (hs : s < 12) (hp : p < 12) (K : post (ck, pz, upd kd p (nI 3), upd pl p (nI s), fr, fp, fs, po, pp, ps, pt, cs_cp sl (s * 16) pn 16, upd sp s (nI p), pk, pn, he)) : wpX_storeSlot post (ck, pz, kd, pl, fr, fp, fs, po, pp, ps, pt, sl, sp, pk, pn, he) (nI s) (nI p) := by
  have h := cs_ss7 hs hp K 16 0 17 (by omega) (by omega)
  rw [cs_cp0] at h
  exact br_t (nI_pos' (by omega)) (Exists.intro 17 h)
theorem cs_wbS {post : SX → Prop} {f e n : Nat} {c l : Nat → Nat} {b : Nat → Int32} (hf : f < 4) (he1 : f * 2 ≤ e) (he2 : e ≤ f * 2 + 1) (I : cs_Inv c l b kd pl fr fp po pp ps sl sp)
    (K : ∀ c' l' kd' pl' pp' sl' sp' pn', cs_Inv c' l' b kd' pl' fr fp po pp' ps sl' sp' → pp' e = -1 → (∀ j, pp j = -1 → pp' j = -1) → (∀ q, q < 12 → c' q = c q ∨ (c q = 2 ∧ c' q = 3)) → wX_writeBack_4 post (nI f) n (nI (e + 1)) ck pz kd' pl' fr fp fs po pp' ps pt sl' sp' pk pn' he) :
    wX_writeBack_4 post (nI f) (n + 1) (nI e) ck pz kd pl fr fp fs po pp ps pt sl sp pk pn he := by
  have I' := I
  obtain ⟨h0, h1, h2, h3, h4, h5, h6⟩ := I'
  have e0 : nI f * 2 = nI (f * 2) := pk_mul f 2
  have e1 : nI f * 2 + 1 = nI (f * 2 + 1) := by rw [e0, nI_1]
  refine br_f (by rw [e1]; exact nI_nlt (by omega) (by omega)) (And.intro (vp_in_nI (by omega) (by decide)) ?_)
  rw [nI_clamp (by omega)]
  have w := cs_neg (cs_ows h2 (j := e) (by omega))
  refine br_c (fun q => nm_r (nI_1 e) (K c l kd pl pp sl sp pn I (w.mp q) (fun _ h => h) (fun _ _ => Or.inl rfl))) (fun q => ?_)
  have hne : pp e ≠ -1 := fun x => q (w.mpr x)
  obtain ⟨p, hp, hcp, hlp⟩ : ∃ p, p < 12 ∧ c p = 2 ∧ l p = e := by
    rcases h2.2 e (by omega) with a | a
    · exact absurd a hne
    · exact a
  obtain ⟨-, hpp, z, hz, hs, hd⟩ := h2.1 p hp hcp
  rw [hlp] at hpp hs hd
  refine cs_unpack (by omega) hz hs hd (fun pn' hpn => ?_)
  refine And.intro (vp_in_nI (by omega) (by decide)) (nm_r hpp (And.intro (vp_in_nI (by omega) (by decide)) (nm_e ?_)))
  have R := cs_InvR I hp
  have r1 : cs_rl 1 (c p) (l p) fp = fp := by
    unfold cs_rl
    rw [if_neg (by rw [hcp]; decide)]
  have r2 : cs_rl 2 (c p) (l p) pp = upd pp e (-1) := by
    unfold cs_rl
    rw [if_pos hcp, hlp]
  have r3 : cs_rl 3 (c p) (l p) sp = sp := by
    unfold cs_rl
    rw [if_neg (by rw [hcp]; decide)]
  rw [r1, r2, r3] at R
  refine cs_freeSlot hp (fun s hs => cs_ows h3 hs) (cs_free h3 hp (by rw [hcp]; decide)) (fun s hs hsp => ?_)
  refine cs_storeSlot hs hp (nm_r (nI_1 e) ?_)
  have A := cs_InvS (sl' := cs_cp sl (s * 16) pn' 16) R hp cs_us hs hsp h6 ((h4 p hp).2 (by omega)) (fun i hi => by rw [cs_cpI hi]; exact hpn i hi) (fun j hj => cs_cpO hj)
  rw [cs_uu] at A
  refine K _ _ _ _ _ _ _ _ A pk_us (fun j hj => ?_) (fun q' hq' => ?_)
  · by_cases ej : j = e
    · rw [ej, pk_us]
    · rw [pk_un ej]
      exact hj
  · by_cases eq : q' = p
    · subst eq
      exact Or.inr ⟨hcp, cs_us⟩
    · exact Or.inl (by rw [cs_un eq, cs_un eq])
theorem cs_writeBack {post : SX → Prop} {f : Nat} {c l : Nat → Nat} {b : Nat → Int32} (hf : f < 4) (I : cs_Inv c l b kd pl fr fp po pp ps sl sp)
    (K : ∀ c' l' kd' pl' pp' sl' sp' pn', cs_Inv c' l' b kd' pl' fr fp po pp' ps sl' sp' → pp' (f * 2) = -1 → pp' (f * 2 + 1) = -1 → (∀ q, q < 12 → c' q = c q ∨ (c q = 2 ∧ c' q = 3)) → post (ck, pz, kd', pl', fr, fp, fs, po, pp', ps, pt, sl', sp', pk, pn', he)) :
    wpX_writeBack post (ck, pz, kd, pl, fr, fp, fs, po, pp, ps, pt, sl, sp, pk, pn, he) (nI f) := by
  have e0 : nI f * 2 = nI (f * 2) := pk_mul f 2
  have e1 : nI f * 2 + 1 = nI (f * 2 + 1) := by rw [e0, nI_1]
  refine nm_r e0 (Exists.intro 3 ?_)
  refine cs_wbS hf (by omega) (by omega) I (fun c1 l1 kd1 pl1 pp1 sl1 sp1 pn1 I1 a1 m1 q1 => ?_)
  refine cs_wbS hf (by omega) (by omega) I1 (fun c2 l2 kd2 pl2 pp2 sl2 sp2 pn2 I2 a2 m2 q2 => ?_)
  refine br_t (by rw [e1]; exact nI_lt (by omega) (by omega)) (K c2 l2 kd2 pl2 pp2 sl2 sp2 pn2 I2 (m2 _ a1) a2 (fun q hq => ?_))
  have w1 := q1 q hq
  have w2 := q2 q hq
  omega
theorem cs_sp43 {post : SX → Prop} {f P e B z : Nat} (hf : f < 4) (hP : P < 12) (hB : B + z ≤ 64) (hz : z < 16)
    (K : ∀ ck' pt', post (ck', nI z, upd kd P (nI 2), upd pl P (nI e), fr, fp, fs, cs_cp po B pk z, pp, ps, pt', sl, sp, pk, pn, he)) :
    ∀ d k n, k + d = z → d < n → wX_storePacked_43 post (nI f) (nI P) (nI e) (nI B) ck (nI z) n (nI k) kd pl fr fp fs (cs_cp po B pk k) pp ps pt sl sp pk pn he := by
  intro d
  induction d with
  | zero =>
    intro k n hk hn
    obtain ⟨n, rfl⟩ : ∃ m, n = m + 1 := ⟨n - 1, by omega⟩
    have e : k = z := by omega
    subst e
    exact br_t (nI_le (by omega) (by omega)) (nm_e (And.intro (vp_in_nI hf (by decide)) (nm_e (And.intro (vp_in_nI hP (by decide)) (nm_r (cs_ua kd (by omega) (nI 2)) (And.intro (vp_in_nI hP (by decide)) (nm_r (cs_ua pl (by omega) _) (K _ _))))))))
  | succ d ih =>
    intro k n hk hn
    obtain ⟨n, rfl⟩ : ∃ m, n = m + 1 := ⟨n - 1, by omega⟩
    have e1 : nI B + nI k = nI (B + k) := nI_add _ _
    have c1 : (nI B + nI k).toNatClampNeg = B + k := pk_cl _ e1
    exact br_f (nI_ge (by omega) (by omega)) (And.intro (vp_in_nI (by omega) (by decide)) (And.intro (pk_in _ 64 (by omega) e1) (nm_r (e' := cs_cp po B pk (k + 1)) (by rw [c1, nI_clamp (by omega), cs_cpS]) (nm_r (nI_1 k) (ih (k + 1) n (by omega) (by omega))))))
theorem cs_sp16 {post : SX → Prop} {f P e z : Nat} (hf : f < 4) (hP : P < 12) (he8 : e < 8) (hz : z < 16)
    (K : ∀ ck' pt', post (ck', nI z, upd kd P (nI 2), upd pl P (nI e), fr, fp, fs, cs_cp po (cs_base e z) pk z, upd pp e (nI P), upd ps e (nI z), pt', sl, sp, pk, pn, he)) :
    wX_storePacked_16 post (nI f) (nI P) (nI e) ck (nI z) kd pl fr fp fs po pp ps pt sl sp pk pn he := by
  have hB : cs_base e z + z ≤ 64 := by
    unfold cs_base
    split <;> omega
  refine And.intro (vp_in_nI he8 (by decide)) (nm_r (cs_ua pp (by omega) _) (And.intro (vp_in_nI he8 (by decide)) (nm_r (cs_ua ps (by omega) _) (cs_baseOf he8 (by omega) pk_us (Exists.intro (z + 1) ?_)))))
  have h := cs_sp43 (ck := ck) (pt := pt) hf hP hB hz K z 0 (z + 1) (by omega) (by omega)
  rw [cs_cp0] at h
  exact h
theorem cs_storePacked {post : SX → Prop} {f P z : Nat} {c l : Nat → Nat} {b : Nat → Int32} (hf : f < 4) (hP : P < 12) (I : cs_Inv c l (cs_zp b P) kd pl fr fp po pp ps sl sp) (hc : c P = 0) (hB : cs_B b) (hN : cs_Nz b P) (hz : z < 16) (hF : cs_Fit pp ps z f)
    (hD : ∃ r, cs_Ch pk (fun i => b (16 * P + i)) r 0 0 z 16)
    (K : ∀ ck' kd' pl' po' pp' ps' pt' e, cs_Inv (cs_up c P 2) (cs_up l P e) b kd' pl' fr fp po' pp' ps' sl sp → post (ck', nI z, kd', pl', fr, fp, fs, po', pp', ps', pt', sl, sp, pk, pn, he)) :
    wpX_storePacked post (ck, nI z, kd, pl, fr, fp, fs, po, pp, ps, pt, sl, sp, pk, pn, he) (nI f) (nI P) := by
  have e0 : nI f * 2 = nI (f * 2) := pk_mul f 2
  obtain ⟨F1, F2, F3⟩ := hF
  obtain ⟨r, hC⟩ := hD
  have dec : ∀ e, cs_Dec (cs_cp po (cs_base e z) pk z) (cs_base e z) z (fun i => b (16 * P + i)) := fun e => ⟨r, cs_ChC (fun _ _ => rfl) r hC (fun k _ hk => cs_cpI hk)⟩
  have w := cs_neg (cs_ows I.2.2.1 (j := f * 2) (by omega))
  refine nm_r e0 (And.intro (vp_in_nI (by omega) (by decide)) ?_)
  rw [nI_clamp (by omega)]
  refine br_c (fun q => ?_) (fun q => nm_r (nI_1 _) ?_)
  · have w1 := w.mp q
    refine cs_sp16 hf hP (by omega) hz (fun ck' pt' => K _ _ _ _ _ _ _ _ (cs_InvP I hP hc (by omega) w1 hB hN hz (fun _ h => F3 h) (fun h => absurd h (by omega)) (dec _) (fun j hj => cs_cpO hj)))
  · have w1 : pp (f * 2) ≠ -1 := fun x => q (w.mpr x)
    refine cs_sp16 hf hP (by omega) hz (fun ck' pt' => K _ _ _ _ _ _ _ _ (cs_InvP I hP hc (by omega) (F1 w1) hB hN hz (fun h => absurd h (by omega)) (fun _ h => F2 w1) (dec _) (fun j hj => cs_cpO hj)))
end
end
section
theorem cs_rlT {κ k j : Nat} {ow : Nat → Int32} (h : k = κ) : cs_rl κ k j ow = upd ow j (-1) := if_pos h
theorem cs_rlF {κ k j : Nat} {ow : Nat → Int32} (h : k ≠ κ) : cs_rl κ k j ow = ow := if_neg h
section
variable {ck pz : Int32} {kd pl fr fp fs po pp ps pt sl sp pk pn he : Nat → Int32}
theorem cs_bf4 {post : Int32 → Prop} {f : Nat} (hf : f < 3) (K1 : (∀ i, i < 16 → fr (f * 16 + i) = 0) → post 1) (K0 : (∃ i, i < 16 ∧ fr (f * 16 + i) ≠ 0) → post 0) :
    ∀ d k n x2, k + d = 16 → d < n → ((x2 = 1 ∧ ∀ i, i < k → fr (f * 16 + i) = 0) ∨ (x2 = 0 ∧ ∃ i, i < 16 ∧ fr (f * 16 + i) ≠ 0)) → wX_blankFrame_4 post (nI f) ck pz kd pl fr fp fs po pp ps pt sl sp pk pn he n x2 (nI k) := by
  intro d
  induction d with
  | zero =>
    intro k n x2 hk hn hI
    obtain ⟨n, rfl⟩ : ∃ m, n = m + 1 := ⟨n - 1, by omega⟩
    have e : k = 16 := by omega
    subst e
    rcases hI with ⟨e, h⟩ | ⟨e, h⟩
    · subst e
      exact br_t (nI_le (a := 16) (by omega) (by omega)) (And.intro rfl (K1 h))
    · subst e
      exact br_t (nI_le (a := 16) (by omega) (by omega)) (And.intro rfl (K0 h))
  | succ d ih =>
    intro k n x2 hk hn hI
    obtain ⟨n, rfl⟩ : ∃ m, n = m + 1 := ⟨n - 1, by omega⟩
    have e0 : nI f * 16 = nI (f * 16) := pk_mul f 16
    have e1 : nI f * 16 + nI k = nI (f * 16 + k) := by rw [e0, nI_add]
    have c1 : (nI f * 16 + nI k).toNatClampNeg = f * 16 + k := pk_cl _ e1
    refine br_f (nI_ge (b := 16) (by omega) (by omega)) ?_
    rcases hI with ⟨e, h⟩ | ⟨e, h⟩
    · subst e
      refine br_f (by decide) (And.intro (pk_in _ 48 (by omega) e1) ?_)
      rw [c1]
      refine br_c (fun q => nm_r (nI_1 k) (ih (k + 1) n 1 (by omega) (by omega) (Or.inl ⟨rfl, fun i hi => ?_⟩))) (fun q => nm_r (nI_1 k) (ih (k + 1) n 0 (by omega) (by omega) (Or.inr ⟨rfl, k, by omega, q⟩)))
      by_cases ei : i = k
      · rw [ei]
        exact q
      · exact h i (by omega)
    · subst e
      exact br_t rfl (nm_r (nI_1 k) (ih (k + 1) n 0 (by omega) (by omega) (Or.inr ⟨rfl, h⟩)))
theorem cs_blankFrame {post : Int32 → Prop} {f : Nat} (hf : f < 3) (K1 : (∀ i, i < 16 → fr (f * 16 + i) = 0) → post 1) (K0 : (∃ i, i < 16 ∧ fr (f * 16 + i) ≠ 0) → post 0) : wpX_blankFrame post (ck, pz, kd, pl, fr, fp, fs, po, pp, ps, pt, sl, sp, pk, pn, he) (nI f) :=
  Exists.intro 17 (cs_bf4 hf K1 K0 16 0 17 1 rfl (by decide) (Or.inl ⟨rfl, fun i hi => absurd hi (Nat.not_lt_zero i)⟩))
theorem cs_release {post : SX → Prop} {p k j : Nat} (hp : p < 12) (hk : kd p = nI k) (hk4 : k < 4) (hl : pl p = nI j) (h1 : k = 1 → j < 3) (h2 : k = 2 → j < 8) (h3 : k = 3 → j < 12)
    (K : post (ck, pz, upd kd p 0, pl, fr, cs_rl 1 k j fp, fs, po, cs_rl 2 k j pp, ps, pt, sl, cs_rl 3 k j sp, pk, pn, he)) : wpX_release post (ck, pz, kd, pl, fr, fp, fs, po, pp, ps, pt, sl, sp, pk, pn, he) (nI p) := by
  have vp : vp_in (nI p) 12 := vp_in_nI hp (by decide)
  refine And.intro vp ?_
  rw [nI_clamp (by omega), hk, hl]
  have cases : k = 0 ∨ k = 1 ∨ k = 2 ∨ k = 3 := by omega
  rcases cases with e | e | e | e
  · subst e
    rw [cs_rlF (by decide), cs_rlF (by decide), cs_rlF (by decide)] at K
    exact br_f (by decide) (And.intro vp (br_f (by decide) (And.intro vp (br_f (by decide) (And.intro vp (nm_e K))))))
  · subst e
    have hj := h1 rfl
    rw [cs_rlT rfl, cs_rlF (by decide), cs_rlF (by decide)] at K
    exact br_t (by decide) (And.intro vp (And.intro (vp_in_nI hj (by decide)) (nm_r (cs_ua fp (by omega) _) (And.intro vp (nm_e K)))))
  · subst e
    have hj := h2 rfl
    rw [cs_rlF (by decide), cs_rlT rfl, cs_rlF (by decide)] at K
    exact br_f (by decide) (And.intro vp (br_t (by decide) (And.intro vp (And.intro (vp_in_nI hj (by decide)) (nm_r (cs_ua pp (by omega) _) (And.intro vp (nm_e K)))))))
  · subst e
    have hj := h3 rfl
    rw [cs_rlF (by decide), cs_rlF (by decide), cs_rlT rfl] at K
    exact br_f (by decide) (And.intro vp (br_f (by decide) (And.intro vp (br_t (by decide) (And.intro vp (And.intro (vp_in_nI hj (by decide)) (nm_r (cs_ua sp (by omega) _) (And.intro vp (nm_e K)))))))))
theorem cs_relI {post : SX → Prop} {p : Nat} {c l : Nat → Nat} {b : Nat → Int32} (hp : p < 12) (I : cs_Inv c l b kd pl fr fp po pp ps sl sp)
    (K : post (ck, pz, upd kd p 0, pl, fr, cs_rl 1 (c p) (l p) fp, fs, po, cs_rl 2 (c p) (l p) pp, ps, pt, sl, cs_rl 3 (c p) (l p) sp, pk, pn, he)) : wpX_release post (ck, pz, kd, pl, fr, fp, fs, po, pp, ps, pt, sl, sp, pk, pn, he) (nI p) := by
  obtain ⟨h0, h1, h2, h3, h4, h5, h6⟩ := I
  exact cs_release hp (h0 p hp).2.1 (h0 p hp).1 (h0 p hp).2.2 (fun e => (h1.1 p hp e).1) (fun e => (h2.1 p hp e).1) (fun e => (h3.1 p hp e).1) K
theorem cs_e137 {post : SX → Prop} {f P z : Nat} {c l : Nat → Nat} {b : Nat → Int32} (hf : f < 4) (hP : P < 12) (I : cs_Inv c l (cs_zp b P) kd pl fr fp po pp ps sl sp) (hc : c P = 0) (hB : cs_B b) (hN : cs_Nz b P) (hz : z < 16) (hF : cs_Fit pp ps z f)
    (hD : ∃ r, cs_Ch pk (fun i => b (16 * P + i)) r 0 0 z 16)
    (K : ∀ ck' kd' pl' po' pp' ps' pt' e, cs_Inv (cs_up c P 2) (cs_up l P e) b kd' pl' fr fp po' pp' ps' sl sp → post (ck', nI z, kd', pl', fr, fp, fs, po', pp', ps', pt', sl, sp, pk, pn, he)) :
    wX_evict_137 post (nI P) (nI f) ck (nI z) kd pl fr fp fs po pp ps pt sl sp pk pn he := by
  unfold wX_evict_137
  exact cs_storePacked hf hP I hc hB hN hz hF hD K
theorem cs_e49 {post : SX → Prop} {f P : Nat} {c l : Nat → Nat} {b : Nat → Int32} (hf : f < 3) (hP : P < 12) (I : cs_Inv c l (cs_zp b P) (upd kd P 0) pl fr fp po pp ps sl sp) (hc : c P = 0) (hB : cs_B b) (hN : cs_Nz b P)
    (hg : ∀ i, i < 16 → fr (f * 16 + i) = b (16 * P + i))
    (K : ∀ s kd' pl' sl' sp' pn', cs_Inv (cs_up c P 3) (cs_up l P s) b kd' pl' fr fp po pp ps sl' sp' → post (ck, pz, kd', pl', fr, fp, fs, po, pp, ps, pt, sl', sp', pk, pn', he)) :
    ∀ d k n, k + d = 16 → d < n → wX_evict_49 post (nI f) (nI P) ck pz n (nI k) kd pl fr fp fs po pp ps pt sl sp pk (cs_cp pn 0 (fun i => fr (f * 16 + i)) k) he := by
  intro d
  induction d with
  | zero =>
    intro k n hk hn
    obtain ⟨n, rfl⟩ : ∃ m, n = m + 1 := ⟨n - 1, by omega⟩
    have e : k = 16 := by omega
    subst e
    have h3 := I.2.2.2.1
    refine br_t (nI_le (a := 16) (by omega) (by omega)) (And.intro (vp_in_nI hP (by decide)) (nm_r (cs_ua kd (by omega) _) ?_))
    refine cs_freeSlot hP (fun s hs => cs_ows h3 hs) (cs_free h3 hP (by rw [hc]; decide)) (fun s hs hsp => ?_)
    refine cs_storeSlot hs hP ?_
    exact K s _ _ _ _ _ (cs_InvS I hP hc hs hsp hB hN (fun i hi => by rw [cs_cpI hi, cs_cpI0 hi]; exact hg i hi) (fun j hj => cs_cpO hj))
  | succ d ih =>
    intro k n hk hn
    obtain ⟨n, rfl⟩ : ∃ m, n = m + 1 := ⟨n - 1, by omega⟩
    have e0 : nI f * 16 = nI (f * 16) := pk_mul f 16
    have e1 : nI f * 16 + nI k = nI (f * 16 + k) := by rw [e0, nI_add]
    have c1 : (nI f * 16 + nI k).toNatClampNeg = f * 16 + k := pk_cl _ e1
    exact br_f (nI_ge (b := 16) (by omega) (by omega)) (And.intro (pk_in _ 48 (by omega) e1) (And.intro (vp_in_nI (by omega) (by decide)) (nm_r (e' := cs_cp pn 0 (fun i => fr (f * 16 + i)) (k + 1)) (by rw [c1, nI_clamp (by omega), ← cs_cpS0]) (nm_r (nI_1 k) (ih (k + 1) n (by omega) (by omega))))))
theorem cs_evict {post : SX → Prop} {f : Nat} {c l : Nat → Nat} {b : Nat → Int32} (hf : f < 3) (I : cs_Inv c l b kd pl fr fp po pp ps sl sp) (hne : fp f ≠ -1)
    (K : ∀ c' l' ck1 pz1 kd1 pl1 fp1 po1 pp1 ps1 pt1 sl1 sp1 pk1 pn1, cs_Inv c' l' b kd1 pl1 fr fp1 po1 pp1 ps1 sl1 sp1 → fp1 f = -1 → (∀ q, q < 12 → c' q = 1 → c q = 1) → post (ck1, pz1, kd1, pl1, fr, fp1, fs, po1, pp1, ps1, pt1, sl1, sp1, pk1, pn1, he)) :
    wpX_evict post (ck, pz, kd, pl, fr, fp, fs, po, pp, ps, pt, sl, sp, pk, pn, he) (nI f) := by
  have I' := I
  obtain ⟨h0, h1, h2, h3, h4, h5, h6⟩ := I'
  obtain ⟨P, hP, hcP, hlP⟩ : ∃ P, P < 12 ∧ c P = 1 ∧ l P = f := by
    rcases h1.2 f hf with a | a
    · exact absurd a hne
    · exact a
  obtain ⟨-, hfp, hg⟩ := h1.1 P hP hcP
  rw [hlP] at hfp hg
  have R := cs_InvR I hP
  rw [cs_rlT hcP, hlP, cs_rlF (by rw [hcP]; decide), cs_rlF (by rw [hcP]; decide)] at R
  have hpp : cs_Ow pp 8 := fun e he8 => cs_ows h2 he8
  have hps : ∀ e, e < 8 → pp e ≠ -1 → ∃ y, y < 16 ∧ ps e = nI y := by
    intro e he8 hn
    rcases h2.2 e he8 with a | ⟨p, hp, hc, hl⟩
    · exact absurd a hn
    · obtain ⟨-, -, z, hz, hs, -⟩ := h2.1 p hp hc
      rw [hl] at hs
      exact ⟨z, hz, hs⟩
  have ones : ∀ k, k ≠ 1 → ∀ q, q < 12 → cs_up (cs_up c P 0) P k q = 1 → c q = 1 := by
    intro k hk q hq h
    by_cases e : q = P
    · rw [e]
      exact hcP
    · rw [cs_un e, cs_un e] at h
      exact h
  have vf : vp_in (nI f) 3 := vp_in_nI hf (by decide)
  have vP : vp_in (nI P) 12 := vp_in_nI hP (by decide)
  refine And.intro vf (nm_r (e' := nI P) (by rw [nI_clamp (by omega)]; exact hfp) (And.intro vf (nm_r (cs_ua fp (by omega) _) (cs_blankFrame hf (fun hz => ?_) (fun hz => ?_)))))
  · refine br_f (by decide) (And.intro vP (nm_r (cs_ua kd (by omega) _) ?_))
    have zz : cs_zp b P = b := cs_zpz (fun i hi => by rw [← hg i hi]; exact hz i hi)
    rw [zz] at R
    refine K _ _ _ _ _ _ _ _ _ _ _ _ _ _ _ R pk_us (fun q hq h => ?_)
    by_cases e : q = P
    · rw [e]
      exact hcP
    · rw [cs_un e] at h
      exact h
  · have hN : cs_Nz b P := by
      obtain ⟨i, hi, h⟩ := hz
      exact ⟨i, hi, by rw [← hg i hi]; exact h⟩
    refine br_t rfl (cs_pack hf (fun z pk' hz17 hC => ?_))
    have hD : ∃ r, cs_Ch pk' (fun i => b (16 * P + i)) r 0 0 z 16 := by
      obtain ⟨r, h⟩ := hC
      exact ⟨r, cs_ChC (fun k hk => (hg k hk).symm) r h (fun _ _ _ => rfl)⟩
    refine pk_lt z 16 (fun hz16 => And.intro vP (nm_r (cs_ua kd (by omega) _) (cs_poolFrame hz16 hpp hps (fun t ht hF => ?_) (fun hall => ?_)))) (fun hz16 => Exists.intro 17 ?_)
    · refine br_t (nI_pos' (by omega)) ?_
      exact cs_e137 ht hP R cs_us h6 hN hz16 hF hD (fun ck' kd' pl' po' pp' ps' pt' e A => K _ _ _ _ _ _ _ _ _ _ _ _ _ _ _ A pk_us (ones 2 (by decide)))
    · refine br_f (by decide) (cs_oldest hpp (fun t ht => ?_) (fun h => absurd (h 0 (by decide)) (hall 0 (by decide))))
      refine cs_writeBack ht R (fun c1 l1 kd1 pl1 pp1 sl1 sp1 pn1 I1 a1 a2 hq => ?_)
      have hcz : c1 P = 0 := by
        have w := hq P hP
        rw [cs_us] at w
        omega
      refine cs_e137 ht hP I1 hcz h6 hN hz16 (cs_fit0 a1 a2) hD (fun ck' kd' pl' po' pp' ps' pt' e A => K _ _ _ _ _ _ _ _ _ _ _ _ _ _ _ A pk_us (fun q hq' h => ?_))
      by_cases e : q = P
      · rw [e]
        exact hcP
      · rw [cs_un e] at h
        have w := hq q hq'
        rw [cs_un e] at w
        omega
    · have h := cs_e49 (post := post) (ck := ck) (pz := nI z) (fs := fs) (pt := pt) (pk := pk') (pn := pn) (he := he) hf hP R cs_us h6 hN hg (fun s kd' pl' sl' sp' pn' A => K _ _ _ _ _ _ _ _ _ _ _ _ _ _ _ A pk_us (ones 3 (by decide))) 16 0 17 (by omega) (by omega)
      rw [cs_cp0] at h
      exact h
theorem cs_ff4 {post : Int32 → SX → Prop} {c l : Nat → Nat} {b : Nat → Int32} (I : cs_Inv c l b kd pl fr fp po pp ps sl sp)
    (K : ∀ f c' l' ck1 pz1 kd1 pl1 fp1 po1 pp1 ps1 pt1 sl1 sp1 pk1 pn1, f < 3 → cs_Inv c' l' b kd1 pl1 fr fp1 po1 pp1 ps1 sl1 sp1 → fp1 f = -1 → (∀ q, q < 12 → c' q = 1 → c q = 1) → post (nI f) (ck1, pz1, kd1, pl1, fr, fp1, fs, po1, pp1, ps1, pt1, sl1, sp1, pk1, pn1, he)) :
    ∀ d k n o, k + d = 3 → d < n → o < 3 → (∀ f, f < k → fp f ≠ -1) → (d = 0 → fp o ≠ -1) → wX_freeFrame_4 post ck pz kd pl fr fp fs po pp ps pt sl sp pk pn he n (nI o) (nI k) := by
  intro d
  induction d with
  | zero =>
    intro k n o hk hn ho hall hd
    obtain ⟨n, rfl⟩ : ∃ m, n = m + 1 := ⟨n - 1, by omega⟩
    refine br_t (nI_le (a := 3) (by omega) (by omega)) (cs_evict ho I (hd rfl) ?_)
    intro c' l' ck1 pz1 kd1 pl1 fp1 po1 pp1 ps1 pt1 sl1 sp1 pk1 pn1 A1 A2 A3
    exact K o c' l' ck1 pz1 kd1 pl1 fp1 po1 pp1 ps1 pt1 sl1 sp1 pk1 pn1 ho A1 A2 A3
  | succ d ih =>
    intro k n o hk hn ho hall hd
    obtain ⟨n, rfl⟩ : ∃ m, n = m + 1 := ⟨n - 1, by omega⟩
    have w := cs_nng (cs_ows I.2.1 (j := k) (by omega))
    have vk : vp_in (nI k) 3 := vp_in_nI (by omega) (by decide)
    refine br_f (nI_ge (b := 3) (by omega) (by omega)) (And.intro vk ?_)
    rw [nI_clamp (n := k) (by omega)]
    refine br_c (fun q => And.intro vk (And.intro (vp_in_nI ho (by decide)) (br_c (fun _ => nm_r (nI_1 k) ?_) (fun _ => nm_r (nI_1 k) ?_)))) (fun q => ?_)
    · have al : ∀ f, f < k + 1 → fp f ≠ -1 := fun f hf => by
        by_cases e : f = k
        · rw [e]
          exact w.mp q
        · exact hall f (by omega)
      exact ih (k + 1) n o (by omega) (by omega) ho al (fun e => al o (by omega))
    · have al : ∀ f, f < k + 1 → fp f ≠ -1 := fun f hf => by
        by_cases e : f = k
        · rw [e]
          exact w.mp q
        · exact hall f (by omega)
      exact ih (k + 1) n k (by omega) (by omega) (by omega) al (fun e => al k (by omega))
    · exact K k c l ck pz kd pl fp po pp ps pt sl sp pk pn (by omega) I (Classical.byContradiction fun x => q (w.mpr x)) (fun _ _ h => h)
theorem cs_freeFrame {post : Int32 → SX → Prop} {c l : Nat → Nat} {b : Nat → Int32} (I : cs_Inv c l b kd pl fr fp po pp ps sl sp)
    (K : ∀ f c' l' ck1 pz1 kd1 pl1 fp1 po1 pp1 ps1 pt1 sl1 sp1 pk1 pn1, f < 3 → cs_Inv c' l' b kd1 pl1 fr fp1 po1 pp1 ps1 sl1 sp1 → fp1 f = -1 → (∀ q, q < 12 → c' q = 1 → c q = 1) → post (nI f) (ck1, pz1, kd1, pl1, fr, fp1, fs, po1, pp1, ps1, pt1, sl1, sp1, pk1, pn1, he)) :
    wpX_freeFrame post (ck, pz, kd, pl, fr, fp, fs, po, pp, ps, pt, sl, sp, pk, pn, he) :=
  Exists.intro 4 (cs_ff4 I K 3 0 4 0 rfl (by decide) (by decide) (fun f hf => absurd hf (Nat.not_lt_zero f)) (fun h => absurd h (by decide)))
theorem cs_b147 {post : Int32 → SX → Prop} {f P : Nat} (hf : f < 3) (hP : P < 12)
    (K : ∀ ck' fs', post (nI (f * 16)) (ck', pz, upd kd P (nI 1), upd pl P (nI f), cs_cp fr (f * 16) pn 16, upd fp f (nI P), fs', po, pp, ps, pt, sl, sp, pk, pn, he)) :
    ∀ d k n, k + d = 16 → d < n → wX_bring_147 post (nI P) (nI f) ck pz n (nI k) kd pl (cs_cp fr (f * 16) pn k) fp fs po pp ps pt sl sp pk pn he := by
  have e0 : nI f * 16 = nI (f * 16) := pk_mul f 16
  intro d
  induction d with
  | zero =>
    intro k n hk hn
    obtain ⟨n, rfl⟩ : ∃ m, n = m + 1 := ⟨n - 1, by omega⟩
    have e : k = 16 := by omega
    subst e
    rw [← e0] at K
    exact br_t (nI_le (a := 16) (by omega) (by omega)) (And.intro (vp_in_nI hf (by decide)) (nm_r (cs_ua fp (by omega) _) (nm_e (And.intro (vp_in_nI hf (by decide)) (nm_e (And.intro (vp_in_nI hP (by decide)) (nm_r (cs_ua kd (by omega) (nI 1)) (And.intro (vp_in_nI hP (by decide)) (nm_r (cs_ua pl (by omega) _) (K _ _))))))))))
  | succ d ih =>
    intro k n hk hn
    obtain ⟨n, rfl⟩ : ∃ m, n = m + 1 := ⟨n - 1, by omega⟩
    have e1 : nI f * 16 + nI k = nI (f * 16 + k) := by rw [e0, nI_add]
    have c1 : (nI f * 16 + nI k).toNatClampNeg = f * 16 + k := pk_cl _ e1
    exact br_f (nI_ge (b := 16) (by omega) (by omega)) (And.intro (vp_in_nI (by omega) (by decide)) (And.intro (pk_in _ 48 (by omega) e1) (nm_r (e' := cs_cp fr (f * 16) pn (k + 1)) (by rw [c1, nI_clamp (by omega), cs_cpS]) (nm_r (nI_1 k) (ih (k + 1) n (by omega) (by omega))))))
theorem cs_b140 {post : Int32 → SX → Prop} {f P : Nat} {c l : Nat → Nat} {b : Nat → Int32} (hf : f < 3) (hP : P < 12) (I : cs_Inv c l b kd pl fr fp po pp ps sl sp) (hw : fp f = -1) (hpn : ∀ i, i < 16 → pn i = b (16 * P + i))
    (K : ∀ c' l' ck1 pz1 kd1 pl1 fr1 fp1 fs1 po1 pp1 ps1 pt1 sl1 sp1 pk1 pn1, cs_Inv c' l' b kd1 pl1 fr1 fp1 po1 pp1 ps1 sl1 sp1 → c' P = 1 → post (nI (l' P * 16)) (ck1, pz1, kd1, pl1, fr1, fp1, fs1, po1, pp1, ps1, pt1, sl1, sp1, pk1, pn1, he)) :
    wX_bring_140 post (nI P) (nI f) ck pz kd pl fr fp fs po pp ps pt sl sp pk pn he := by
  unfold wX_bring_140
  refine cs_relI hP I (Exists.intro 17 ?_)
  have R := cs_InvR I hP
  have A := cs_InvF (fr' := cs_cp fr (f * 16) pn 16) R hP cs_us hf (cs_rlm hw) I.2.2.2.2.2.2 (fun i hi => by rw [cs_cpI hi]; exact hpn i hi) (fun j hj => cs_cpO hj)
  have h := cs_b147 (post := post) (ck := ck) (pz := pz) (kd := upd kd P 0) (pl := pl) (fr := fr) (fp := cs_rl 1 (c P) (l P) fp) (fs := fs) (po := po) (pp := cs_rl 2 (c P) (l P) pp) (ps := ps) (pt := pt) (sl := sl) (sp := cs_rl 3 (c P) (l P) sp) (pk := pk) (pn := pn) (he := he) hf hP (fun ck' fs' => by
    have k1 := K _ _ ck' pz _ _ _ _ fs' _ _ _ pt _ _ pk pn A cs_us
    rw [cs_us] at k1
    exact k1) 16 0 17 (by omega) (by omega)
  rw [cs_cp0] at h
  exact h
theorem cs_b106 {post : Int32 → SX → Prop} {f P s : Nat} {b : Nat → Int32} (hP : P < 12) (hs : s < 12) (hl : pl P = nI s)
    (K : ∀ pn', (∀ i, i < 16 → pn' i = sl (s * 16 + i)) → wX_bring_140 post (nI P) (nI f) ck pz kd pl fr fp fs po pp ps pt sl sp pk pn' he) :
    ∀ d k n, k + d = 16 → d < n → wX_bring_106 post (nI P) (nI f) ck pz n (nI k) kd pl fr fp fs po pp ps pt sl sp pk (cs_cp pn 0 (fun i => sl (s * 16 + i)) k) he := by
  intro d
  induction d with
  | zero =>
    intro k n hk hn
    obtain ⟨n, rfl⟩ : ∃ m, n = m + 1 := ⟨n - 1, by omega⟩
    have e : k = 16 := by omega
    subst e
    exact br_t (nI_le (a := 16) (by omega) (by omega)) (K _ (fun i hi => cs_cpI0 hi))
  | succ d ih =>
    intro k n hk hn
    obtain ⟨n, rfl⟩ : ∃ m, n = m + 1 := ⟨n - 1, by omega⟩
    have e0 : nI s * 16 = nI (s * 16) := pk_mul s 16
    have e1 : nI s * 16 + nI k = nI (s * 16 + k) := by rw [e0, nI_add]
    have c1 : (nI s * 16 + nI k).toNatClampNeg = s * 16 + k := pk_cl _ e1
    refine br_f (nI_ge (b := 16) (by omega) (by omega)) (And.intro (vp_in_nI hP (by decide)) ?_)
    rw [nI_clamp (n := P) (by omega), hl, c1]
    exact And.intro (pk_in _ 192 (by omega) e1) (And.intro (vp_in_nI (by omega) (by decide)) (nm_r (e' := cs_cp pn 0 (fun i => sl (s * 16 + i)) (k + 1)) (by rw [nI_clamp (by omega), ← cs_cpS0]) (nm_r (nI_1 k) (ih (k + 1) n (by omega) (by omega)))))
theorem cs_b52 {post : Int32 → SX → Prop} {f P : Nat} {c l : Nat → Nat} {b : Nat → Int32} (hf : f < 3) (hP : P < 12) (I : cs_Inv c l b kd pl fr fp po pp ps sl sp) (hw : fp f = -1) (hc1 : c P ≠ 1)
    (K : ∀ c' l' ck1 pz1 kd1 pl1 fr1 fp1 fs1 po1 pp1 ps1 pt1 sl1 sp1 pk1 pn1, cs_Inv c' l' b kd1 pl1 fr1 fp1 po1 pp1 ps1 sl1 sp1 → c' P = 1 → post (nI (l' P * 16)) (ck1, pz1, kd1, pl1, fr1, fp1, fs1, po1, pp1, ps1, pt1, sl1, sp1, pk1, pn1, he)) :
    ∀ d k n, k + d = 16 → d < n → wX_bring_52 post (nI P) (nI f) ck pz n (nI k) kd pl fr fp fs po pp ps pt sl sp pk (cs_cp pn 0 (fun _ => 0) k) he := by
  intro d
  induction d with
  | zero =>
    intro k n hk hn
    obtain ⟨n, rfl⟩ : ∃ m, n = m + 1 := ⟨n - 1, by omega⟩
    have e : k = 16 := by omega
    subst e
    have vP : vp_in (nI P) 12 := vp_in_nI hP (by decide)
    have I' := I
    obtain ⟨h0, h1, h2, h3, h4, h5, h6⟩ := I'
    obtain ⟨hc4, hk, hl⟩ := h0 P hP
    refine br_t (nI_le (a := 16) (by omega) (by omega)) (And.intro vP ?_)
    rw [nI_clamp (n := P) (by omega), hk, hl]
    refine pk_eq (c P) 2 (fun e2 => And.intro vP ?_) (fun e2 => And.intro vP (pk_eq (c P) 3 (fun e3 => Exists.intro 17 ?_) (fun e3 => ?_)))
    · obtain ⟨l8, -, z, hz, hs, hd⟩ := h2.1 P hP e2
      exact cs_unpack l8 hz hs hd (fun pn' hpn => cs_b140 hf hP I hw hpn K)
    · obtain ⟨l12, -, hH⟩ := h3.1 P hP e3
      have h := cs_b106 (post := post) (f := f) (b := b) (ck := ck) (pz := pz) (kd := kd) (pl := pl) (fr := fr) (fp := fp) (fs := fs) (po := po) (pp := pp) (ps := ps) (pt := pt) (sl := sl) (sp := sp) (pk := pk) (pn := cs_cp pn 0 (fun _ => 0) 16) (he := he) hP l12 hl (fun pn' hpn => cs_b140 hf hP I hw (fun i hi => by rw [hpn i hi]; exact hH i hi) K) 16 0 17 (by omega) (by omega)
      rw [cs_cp0] at h
      exact h
    · exact cs_b140 hf hP I hw (fun i hi => by rw [cs_cpI0 hi]; exact ((h4 P hP).1 (by omega) i hi).symm) K
  | succ d ih =>
    intro k n hk hn
    obtain ⟨n, rfl⟩ : ∃ m, n = m + 1 := ⟨n - 1, by omega⟩
    exact br_f (nI_ge (b := 16) (by omega) (by omega)) (And.intro (vp_in_nI (by omega) (by decide)) (nm_r (e' := cs_cp pn 0 (fun _ => 0) (k + 1)) (by rw [nI_clamp (by omega), ← cs_cpS0]) (nm_r (nI_1 k) (ih (k + 1) n (by omega) (by omega)))))
theorem cs_bring {post : Int32 → SX → Prop} {P : Nat} {c l : Nat → Nat} {b : Nat → Int32} (hP : P < 12) (I : cs_Inv c l b kd pl fr fp po pp ps sl sp)
    (K : ∀ c' l' ck1 pz1 kd1 pl1 fr1 fp1 fs1 po1 pp1 ps1 pt1 sl1 sp1 pk1 pn1, cs_Inv c' l' b kd1 pl1 fr1 fp1 po1 pp1 ps1 sl1 sp1 → c' P = 1 → post (nI (l' P * 16)) (ck1, pz1, kd1, pl1, fr1, fp1, fs1, po1, pp1, ps1, pt1, sl1, sp1, pk1, pn1, he)) :
    wpX_bring post (ck, pz, kd, pl, fr, fp, fs, po, pp, ps, pt, sl, sp, pk, pn, he) (nI P) := by
  have vP : vp_in (nI P) 12 := vp_in_nI hP (by decide)
  have I' := I
  obtain ⟨h0, h1, h2, h3, h4, h5, h6⟩ := I'
  obtain ⟨hc4, hk, hl⟩ := h0 P hP
  refine nm_e (And.intro vP ?_)
  rw [nI_clamp (n := P) (by omega), hk, hl]
  refine pk_eq (c P) 1 (fun e1 => ?_) (fun e1 => ?_)
  · have l3 := (h1.1 P hP e1).1
    have e0 : nI (l P) * 16 = nI (l P * 16) := pk_mul (l P) 16
    refine And.intro vP (And.intro (vp_in_nI l3 (by decide)) (nm_e (And.intro vP ?_)))
    rw [e0]
    exact K c l _ _ _ _ _ _ _ _ _ _ _ _ _ _ _ I e1
  · refine cs_freeFrame I ?_
    intro f c' l' ck1 pz1 kd1 pl1 fp1 po1 pp1 ps1 pt1 sl1 sp1 pk1 pn1 hf A1 A2 A3
    refine Exists.intro 17 ?_
    have h := cs_b52 (post := post) (ck := ck1) (pz := pz1) (fs := fs) (pt := pt1) (pk := pk1) (pn := pn1) (he := he) hf hP A1 A2 (fun x => e1 (A3 P hP x)) K 16 0 17 (by omega) (by omega)
    rw [cs_cp0] at h
    exact h
theorem cs_h8 {post : SX → Prop} {B : Nat} (hB : B + 16 ≤ 48) (K : ∀ he', (∀ i, i < 16 → he' i = fr (B + i)) → post (ck, pz, kd, pl, fr, fp, fs, po, pp, ps, pt, sl, sp, pk, pn, he')) :
    ∀ d k n, k + d = 16 → d < n → wX_hold_8 post (nI B) ck pz n (nI k) kd pl fr fp fs po pp ps pt sl sp pk pn (cs_cp he 0 (fun i => fr (B + i)) k) := by
  intro d
  induction d with
  | zero =>
    intro k n hk hn
    obtain ⟨n, rfl⟩ : ∃ m, n = m + 1 := ⟨n - 1, by omega⟩
    have e : k = 16 := by omega
    subst e
    exact br_t (nI_le (a := 16) (by omega) (by omega)) (K _ (fun i hi => cs_cpI0 hi))
  | succ d ih =>
    intro k n hk hn
    obtain ⟨n, rfl⟩ : ∃ m, n = m + 1 := ⟨n - 1, by omega⟩
    have e1 : nI B + nI k = nI (B + k) := nI_add _ _
    have c1 : (nI B + nI k).toNatClampNeg = B + k := pk_cl _ e1
    exact br_f (nI_ge (b := 16) (by omega) (by omega)) (And.intro (pk_in _ 48 (by omega) e1) (And.intro (vp_in_nI (by omega) (by decide)) (nm_r (e' := cs_cp he 0 (fun i => fr (B + i)) (k + 1)) (by rw [c1, nI_clamp (by omega), ← cs_cpS0]) (nm_r (nI_1 k) (ih (k + 1) n (by omega) (by omega))))))
theorem cs_hold {post : SX → Prop} {P : Nat} {c l : Nat → Nat} {b : Nat → Int32} (hP : P < 12) (I : cs_Inv c l b kd pl fr fp po pp ps sl sp)
    (K : ∀ c' l' ck1 pz1 kd1 pl1 fr1 fp1 fs1 po1 pp1 ps1 pt1 sl1 sp1 pk1 pn1 he1, cs_Inv c' l' b kd1 pl1 fr1 fp1 po1 pp1 ps1 sl1 sp1 → c' P = 1 → (∀ i, i < 16 → he1 i = b (16 * P + i)) → post (ck1, pz1, kd1, pl1, fr1, fp1, fs1, po1, pp1, ps1, pt1, sl1, sp1, pk1, pn1, he1)) :
    wpX_hold post (ck, pz, kd, pl, fr, fp, fs, po, pp, ps, pt, sl, sp, pk, pn, he) (nI P) := by
  unfold wpX_hold
  refine cs_bring hP I ?_
  intro c' l' ck1 pz1 kd1 pl1 fr1 fp1 fs1 po1 pp1 ps1 pt1 sl1 sp1 pk1 pn1 A1 A2
  obtain ⟨l3, -, hH⟩ := A1.2.1.1 P hP A2
  refine Exists.intro 17 ?_
  have h := cs_h8 (post := post) (ck := ck1) (pz := pz1) (kd := kd1) (pl := pl1) (fr := fr1) (fp := fp1) (fs := fs1) (po := po1) (pp := pp1) (ps := ps1) (pt := pt1) (sl := sl1) (sp := sp1) (pk := pk1) (pn := pn1) (he := he) (B := l' P * 16) (by omega) (fun he' hh => K c' l' ck1 pz1 kd1 pl1 fr1 fp1 fs1 po1 pp1 ps1 pt1 sl1 sp1 pk1 pn1 he' A1 A2 (fun i hi => by rw [hh i hi]; exact hH i hi)) 16 0 17 (by omega) (by omega)
  rw [cs_cp0] at h
  exact h
end
end
section
/-- the relation at the head of a turn: some kinds and places, and the invariant -/
def i_Rel (k : Nat) (u : SX) (v : SY) : Prop := match u with
  | (ck, pz, kd, pl, fr, fp, fs, po, pp, ps, pt, sl, sp, pk, pn, he) => ∃ c l, cs_Inv c l v kd pl fr fp po pp ps sl sp
section
variable {ck pz : Int32} {kd pl fr fp fs po pp ps pt sl sp pk pn he : Nat → Int32}
theorem cs_rel {k : Nat} {c l : Nat → Nat} {b : Nat → Int32} (I : cs_Inv c l b kd pl fr fp po pp ps sl sp) : i_Rel k (ck, pz, kd, pl, fr, fp, fs, po, pp, ps, pt, sl, sp, pk, pn, he) b := Exists.intro c (Exists.intro l I)
theorem cs_ix (N : Nat) (hN : N < 2 ^ 31) (x : Int32) : (∃ j, j < N ∧ x = nI j) ∨ (x < 0 ∨ nI N ≤ x) := by
  rcases pk_ix x hN with h | h | h
  · exact Or.inr (Or.inl h)
  · exact Or.inr (Or.inr h)
  · exact Or.inl h
/-! the checks of both sides -/
theorem cs_bpo {post : Int32 → Prop} {n : Nat} (hn : n < 12) (h : post 0) : wpX_badPage post (ck, pz, kd, pl, fr, fp, fs, po, pp, ps, pt, sl, sp, pk, pn, he) (nI n) := br_f (nI_pos (by omega)) (br_t (nI_lt (b := 12) hn (by decide)) h)
theorem cs_bpn {post : Int32 → Prop} {x : Int32} (hx : x < 0 ∨ nI 12 ≤ x) (h : post 1) : wpX_badPage post (ck, pz, kd, pl, fr, fp, fs, po, pp, ps, pt, sl, sp, pk, pn, he) x :=
  br_c (fun _ => h) (fun q => br_f (Int32.not_lt.mpr (hx.resolve_left q)) h)
theorem cs_blo {post : Int32 → Prop} {n : Nat} (hn : n < 16) (h : post 0) : wpX_badPlace post (ck, pz, kd, pl, fr, fp, fs, po, pp, ps, pt, sl, sp, pk, pn, he) (nI n) := br_f (nI_pos (by omega)) (br_t (nI_lt (b := 16) hn (by decide)) h)
theorem cs_bln {post : Int32 → Prop} {x : Int32} (hx : x < 0 ∨ nI 16 ≤ x) (h : post 1) : wpX_badPlace post (ck, pz, kd, pl, fr, fp, fs, po, pp, ps, pt, sl, sp, pk, pn, he) x :=
  br_c (fun _ => h) (fun q => br_f (Int32.not_lt.mpr (hx.resolve_left q)) h)
theorem cs_bbo {post : Int32 → Prop} {n : Nat} (hn : n < 256) (h : post 0) : wpX_badByte post (ck, pz, kd, pl, fr, fp, fs, po, pp, ps, pt, sl, sp, pk, pn, he) (nI n) := br_f (nI_pos (by omega)) (br_t (nI_le (b := 255) (by omega) (by decide)) h)
theorem cs_bbn {post : Int32 → Prop} {x : Int32} (hx : x < 0 ∨ nI 256 ≤ x) (h : post 1) : wpX_badByte post (ck, pz, kd, pl, fr, fp, fs, po, pp, ps, pt, sl, sp, pk, pn, he) x :=
  br_c (fun _ => h) (fun q => br_f (Int32.not_le.mpr (Int32.lt_of_lt_of_le (by decide) (hx.resolve_left q))) h)
end
section
variable {b : Nat → Int32}
theorem cs_ipo {post : Int32 → Prop} {n : Nat} (hn : n < 12) (h : post 1) : wpY_isPage post b (nI n) := br_f (nI_pos (by omega)) (br_f (nI_nlt (a := 11) (by omega) (by decide)) h)
theorem cs_ipn {post : Int32 → Prop} {x : Int32} (hx : x < 0 ∨ nI 12 ≤ x) (h : post 0) : wpY_isPage post b x :=
  br_c (fun _ => h) (fun q => br_t (Int32.lt_of_lt_of_le (by decide) (hx.resolve_left q)) h)
theorem cs_ilo {post : Int32 → Prop} {n : Nat} (hn : n < 16) (h : post 1) : wpY_isPlace post b (nI n) := br_f (nI_pos (by omega)) (br_f (nI_nlt (a := 15) (by omega) (by decide)) h)
theorem cs_iln {post : Int32 → Prop} {x : Int32} (hx : x < 0 ∨ nI 16 ≤ x) (h : post 0) : wpY_isPlace post b x :=
  br_c (fun _ => h) (fun q => br_t (Int32.lt_of_lt_of_le (by decide) (hx.resolve_left q)) h)
theorem cs_ibo {post : Int32 → Prop} {n : Nat} (hn : n < 256) (h : post 1) : wpY_isByte post b (nI n) := br_f (nI_pos (by omega)) (br_f (nI_nlt (a := 255) (by omega) (by decide)) h)
theorem cs_ibn {post : Int32 → Prop} {x : Int32} (hx : x < 0 ∨ nI 256 ≤ x) (h : post 0) : wpY_isByte post b x :=
  br_c (fun _ => h) (fun q => br_t (Int32.lt_of_lt_of_le (by decide) (hx.resolve_left q)) h)
theorem cs_ey (P i : Nat) : 16 * nI P + nI i = nI (16 * P + i) := by
  have e : 16 * nI P = nI (16 * P) := pk_mul 16 P
  rw [e, nI_add]
theorem cs_cy {P i : Nat} (hP : P < 12) (hi : i < 16) : (16 * nI P + nI i).toNatClampNeg = 16 * P + i := pk_cl _ (cs_ey P i)
theorem cs_vy {P i : Nat} (hP : P < 12) (hi : i < 16) : vp_in (16 * nI P + nI i) 192 := pk_in _ 192 (by omega) (cs_ey P i)
theorem cs_cx {f i : Nat} (hf : f < 3) (hi : i < 16) : (nI (f * 16) + nI i).toNatClampNeg = f * 16 + i := pk_cl _ (nI_add _ _)
theorem cs_vx {f i : Nat} (hf : f < 3) (hi : i < 16) : vp_in (nI (f * 16) + nI i) 48 := pk_in (f * 16 + i) 48 (by omega) (nI_add _ _)
end
section
variable {ck pz : Int32} {kd pl fr fp fs po pp ps pt sl sp pk pn he : Nat → Int32}
variable {c l : Nat → Nat} {b : Nat → Int32} {P Q : Nat}
/-! fill -/
theorem cs_fillL {s t w : Nat} (hP : P < 12) (hc : c P = 1) (hl : l P < 3) (ht : t < 16) (hst : s ≤ t) (hw : w < 256) : ∀ d j fr b, j + d = t + 1 → s ≤ j → cs_Inv c l b kd pl fr fp po pp ps sl sp →
    ∃ fr' b', cs_Inv c l b' kd pl fr' fp po pp ps sl sp ∧ (∀ post : Int32 → SX → Prop, post (nI (t + 1 - s)) (ck, pz, kd, pl, fr', fp, fs, po, pp, ps, pt, sl, sp, pk, pn, he) → wX_fill_45 post (nI s) (nI t) (nI w) (nI (l P * 16)) ck pz (d + 1) (nI j) kd pl fr fp fs po pp ps pt sl sp pk pn he) ∧
      (∀ post : Int32 → SY → Prop, post (nI (t + 1 - s)) b' → wY_fill_41 post (nI P) (nI t) (nI w) (d + 1) (nI (j - s)) (nI j) b) := by
  intro d
  induction d with
  | zero =>
    intro j fr b hj hs I
    have e : j = t + 1 := by omega
    subst e
    have e1 : nI t - nI s + 1 = nI (t + 1 - s) := by
      have e2 : t - s + 1 = t + 1 - s := by omega
      rw [pk_sub hst, nI_1, e2]
    refine ⟨fr, b, I, fun post h => br_t (nI_lt (by omega) (by omega)) (br_t (nI_le hst (by omega)) (by rw [e1]; exact h)), fun post h => br_t (nI_lt (by omega) (by omega)) h⟩
  | succ d ih =>
    intro j fr b hj hs I
    have hj16 : j < 16 := by omega
    obtain ⟨fr', b', I', KX, KY⟩ := ih (j + 1) _ _ (by omega) (by omega) (cs_InvW I hP hc hj16 hw)
    have e2 : j - s + 1 = j + 1 - s := by omega
    refine ⟨fr', b', I', fun post h => br_f (nI_nlt (by omega) (by omega)) (And.intro (cs_vx hl hj16) (nm_r (e' := upd fr (l P * 16 + j) (nI w)) (by rw [cs_cx hl hj16]) (nm_r (nI_1 j) (KX post h)))),
      fun post h => br_f (nI_nlt (by omega) (by omega)) (And.intro (cs_vy hP hj16) (nm_r (e' := upd b (16 * P + j) (nI w)) (by rw [cs_cy hP hj16]) (nm_r (e' := nI (j + 1 - s)) (by rw [nI_1, e2]) (nm_r (nI_1 j) (KY post h)))))⟩
/-! copy -/
theorem cs_copyL (hP : P < 12) (hQ : Q < 12) (hc : c P = 1) (hl : l P < 3) : ∀ d k x fr b, k + d = 16 → (∀ j, k ≤ j → j < 16 → b (16 * Q + j) = he j) → cs_Inv c l b kd pl fr fp po pp ps sl sp →
    ∃ r fr' b', cs_Inv c l b' kd pl fr' fp po pp ps sl sp ∧ (∀ post : Int32 → SX → Prop, post r (ck, pz, kd, pl, fr', fp, fs, po, pp, ps, pt, sl, sp, pk, pn, he) → wX_copy_35 post (nI (l P * 16)) ck pz (d + 1) x (nI k) kd pl fr fp fs po pp ps pt sl sp pk pn he) ∧
      (∀ post : Int32 → SY → Prop, post r b' → wY_copy_23 post (nI P) (nI Q) (d + 1) x (nI k) b) := by
  intro d
  induction d with
  | zero =>
    intro k x fr b hk hh I
    have g : (16 : Int32) ≤ nI k := nI_le (a := 16) (by omega) (by omega)
    exact ⟨x, fr, b, I, fun post h => br_t g h, fun post h => br_t g h⟩
  | succ d ih =>
    intro k x fr b hk hh I
    have hk16 : k < 16 := by omega
    have g : ¬ (16 : Int32) ≤ nI k := nI_ge (b := 16) (by omega) (by omega)
    obtain ⟨w, hw, ew⟩ := I.2.2.2.2.2.2 (16 * Q + k) (by omega)
    have hk' := hh k (by omega) hk16
    have hf := (I.2.1.1 P hP hc).2.2 k hk16
    have A := cs_InvW I hP hc hk16 hw
    have hh' : ∀ v j, k + 1 ≤ j → j < 16 → upd b (16 * P + k) v (16 * Q + j) = he j := fun v j h1 h2 => by
      rw [pk_un (by omega)]
      exact hh j (by omega) h2
    rw [← ew] at A
    have ck1 : (nI k).toNatClampNeg = k := nI_clamp (by omega)
    by_cases q : b (16 * P + k) = b (16 * Q + k)
    · have h2 := hh' (b (16 * Q + k))
      rw [cs_ue b _ _ q] at A h2
      obtain ⟨r, fr', b', I', KX, KY⟩ := ih (k + 1) x _ _ (by omega) h2 A
      refine ⟨r, fr', b', I', fun post h => br_f g (And.intro (cs_vx hl hk16) (And.intro (vp_in_nI hk16 (by decide)) ?_)), fun post h => br_f g (And.intro (cs_vy hP hk16) (And.intro (cs_vy hQ hk16) ?_))⟩
      · refine br_t (by rw [cs_cx hl hk16, ck1, ← hk', hf, q]) ?_
        exact And.intro (vp_in_nI hk16 (by decide)) (And.intro (cs_vx hl hk16) (nm_r (e' := upd fr (l P * 16 + k) (b (16 * Q + k))) (by rw [cs_cx hl hk16, ck1, ← hk']) (nm_r (nI_1 k) (KX post h))))
      · exact br_t (by rw [cs_cy hP hk16, cs_cy hQ hk16]; exact q) (nm_r (nI_1 k) (KY post h))
    · obtain ⟨r, fr', b', I', KX, KY⟩ := ih (k + 1) (x + 1) _ _ (by omega) (hh' _) A
      refine ⟨r, fr', b', I', fun post h => br_f g (And.intro (cs_vx hl hk16) (And.intro (vp_in_nI hk16 (by decide)) ?_)), fun post h => br_f g (And.intro (cs_vy hP hk16) (And.intro (cs_vy hQ hk16) ?_))⟩
      · refine br_f (by rw [cs_cx hl hk16, ck1, ← hk', hf]; exact q) (nm_e ?_)
        exact And.intro (vp_in_nI hk16 (by decide)) (And.intro (cs_vx hl hk16) (nm_r (e' := upd fr (l P * 16 + k) (b (16 * Q + k))) (by rw [cs_cx hl hk16, ck1, ← hk']) (nm_r (nI_1 k) (KX post h))))
      · exact br_f (by rw [cs_cy hP hk16, cs_cy hQ hk16]; exact q) (And.intro (cs_vy hQ hk16) (And.intro (cs_vy hP hk16) (nm_r (e' := upd b (16 * P + k) (b (16 * Q + k))) (by rw [cs_cy hP hk16, cs_cy hQ hk16]) (nm_e (nm_r (nI_1 k) (KY post h))))))
/-! mix -/
theorem cs_mixL (hP : P < 12) (hQ : Q < 12) (hc : c P = 1) (hl : l P < 3) : ∀ d k fr b, k + d = 16 → (∀ j, k ≤ j → j < 16 → b (16 * Q + j) = he j) → cs_Inv c l b kd pl fr fp po pp ps sl sp →
    ∃ fr' b', cs_Inv c l b' kd pl fr' fp po pp ps sl sp ∧ (∀ post : Int32 → SX → Prop, post 0 (ck, pz, kd, pl, fr', fp, fs, po, pp, ps, pt, sl, sp, pk, pn, he) → wX_mix_32 post (nI (l P * 16)) ck pz (d + 1) (nI k) kd pl fr fp fs po pp ps pt sl sp pk pn he) ∧
      (∀ post : Int32 → SY → Prop, post 0 b' → wY_mix_20 post (nI P) (nI Q) (d + 1) (nI k) b) := by
  intro d
  induction d with
  | zero =>
    intro k fr b hk hh I
    have g : (16 : Int32) ≤ nI k := nI_le (a := 16) (by omega) (by omega)
    exact ⟨fr, b, I, fun post h => br_t g h, fun post h => br_t g h⟩
  | succ d ih =>
    intro k fr b hk hh I
    have hk16 : k < 16 := by omega
    have g : ¬ (16 : Int32) ≤ nI k := nI_ge (b := 16) (by omega) (by omega)
    obtain ⟨w, hw, ew⟩ := I.2.2.2.2.2.2 (16 * Q + k) (by omega)
    obtain ⟨v, hv, ev⟩ := I.2.2.2.2.2.2 (16 * P + k) (by omega)
    have hk' := hh k (by omega) hk16
    have hf := (I.2.1.1 P hP hc).2.2 k hk16
    have hx : v ^^^ w < 256 := Nat.xor_lt_two_pow (n := 8) hv hw
    have ex : b (16 * P + k) ^^^ b (16 * Q + k) = nI (v ^^^ w) := by rw [ev, ew, nx_xor]
    have A := cs_InvW I hP hc hk16 hx
    have ck1 : (nI k).toNatClampNeg = k := nI_clamp (by omega)
    obtain ⟨fr', b', I', KX, KY⟩ := ih (k + 1) _ _ (by omega) (fun j h1 h2 => by
      rw [pk_un (by omega)]
      exact hh j (by omega) h2) A
    refine ⟨fr', b', I', fun post h => br_f g (And.intro (cs_vx hl hk16) (And.intro (vp_in_nI hk16 (by decide)) (And.intro (cs_vx hl hk16) (nm_r (e' := upd fr (l P * 16 + k) (nI (v ^^^ w))) (by rw [cs_cx hl hk16, ck1, ← hk', hf, ex]) (nm_r (nI_1 k) (KX post h)))))),
      fun post h => br_f g (And.intro (cs_vy hP hk16) (And.intro (cs_vy hQ hk16) (And.intro (cs_vy hP hk16) (nm_r (e' := upd b (16 * P + k) (nI (v ^^^ w))) (by rw [cs_cy hP hk16, cs_cy hQ hk16, ex]) (nm_r (nI_1 k) (KY post h))))))⟩
/-! move -/
theorem cs_moveL {s t m : Nat} (hP : P < 12) (hc : c P = 1) (hl : l P < 3) (hs : s + m ≤ 16) (ht : t + m ≤ 16) : ∀ d k fr b, k + d = m → cs_Inv c l b kd pl fr fp po pp ps sl sp →
    ∃ fr' b', cs_Inv c l b' kd pl fr' fp po pp ps sl sp ∧ (∀ post : Int32 → SX → Prop, post 0 (ck, pz, kd, pl, fr', fp, fs, po, pp, ps, pt, sl, sp, pk, pn, he) → wX_move_68 post (nI s) (nI t) (nI m) (nI (l P * 16)) ck pz (d + 1) (nI k) kd pl fr fp fs po pp ps pt sl sp pk pn he) ∧
      (∀ post : Int32 → SY → Prop, post 0 b' → wY_move_59 post (nI P) (nI s) (nI t) (nI m) (d + 1) (nI k) b) := by
  intro d
  induction d with
  | zero =>
    intro k fr b hk I
    have g : nI m ≤ nI k := nI_le (by omega) (by omega)
    exact ⟨fr, b, I, fun post h => br_t g h, fun post h => br_t g h⟩
  | succ d ih =>
    intro k fr b hk I
    have g : ¬ nI m ≤ nI k := nI_ge (by omega) (by omega)
    have hs16 : s + k < 16 := by omega
    have ht16 : t + k < 16 := by omega
    obtain ⟨w, hw, ew⟩ := I.2.2.2.2.2.2 (16 * P + (s + k)) (by omega)
    have hf := (I.2.1.1 P hP hc).2.2 (s + k) hs16
    have A := cs_InvW I hP hc ht16 hw
    have x1 : ∀ a, nI (l P * 16) + nI a + nI k = nI (l P * 16) + nI (a + k) := fun a => by rw [nI_add, nI_add, nI_add, Nat.add_assoc]
    have y1 : ∀ a, 16 * nI P + nI a + nI k = 16 * nI P + nI (a + k) := fun a => by rw [cs_ey, nI_add, cs_ey, Nat.add_assoc]
    obtain ⟨fr', b', I', KX, KY⟩ := ih (k + 1) _ _ (by omega) A
    refine ⟨fr', b', I', fun post h => br_f g ?_, fun post h => br_f g ?_⟩
    · rw [x1, x1]
      exact And.intro (cs_vx hl hs16) (And.intro (cs_vx hl ht16) (nm_r (e' := upd fr (l P * 16 + (t + k)) (nI w)) (by rw [cs_cx hl hs16, cs_cx hl ht16, hf, ew]) (nm_r (nI_1 k) (KX post h))))
    · rw [y1, y1]
      exact And.intro (cs_vy hP hs16) (And.intro (cs_vy hP ht16) (nm_r (e' := upd b (16 * P + (t + k)) (nI w)) (by rw [cs_cy hP hs16, cs_cy hP ht16, ew]) (nm_r (nI_1 k) (KY post h))))
/-! sum -/
theorem cs_sumX {f : Nat} (hP : P < 12) (hf : f < 3) (hH : cs_H fr b f P) : ∀ d k x, k + d = 16 →
    ∃ r, (∀ post : Int32 → SX → Prop, post r (ck, pz, kd, pl, fr, fp, fs, po, pp, ps, pt, sl, sp, pk, pn, he) → wX_sum_21 post (nI (f * 16)) ck pz kd pl fr fp fs po pp ps pt sl sp pk pn he (d + 1) x (nI k)) ∧ (∀ post : Int32 → Prop, post r → wY_sum_14 post (nI P) b (d + 1) x (nI k)) := by
  intro d
  induction d with
  | zero =>
    intro k x hk
    have g : (16 : Int32) ≤ nI k := nI_le (a := 16) (by omega) (by omega)
    exact ⟨x, fun post h => br_t g h, fun post h => br_t g h⟩
  | succ d ih =>
    intro k x hk
    have hk16 : k < 16 := by omega
    have g : ¬ (16 : Int32) ≤ nI k := nI_ge (b := 16) (by omega) (by omega)
    obtain ⟨r, KX, KY⟩ := ih (k + 1) (x + (nI k + 1) * b (16 * P + k)) (by omega)
    refine ⟨r, fun post h => br_f g (And.intro (cs_vx hf hk16) (nm_r (e' := x + (nI k + 1) * b (16 * P + k)) (by rw [cs_cx hf hk16, hH k hk16]) (nm_r (nI_1 k) (KX post h)))),
      fun post h => br_f g (And.intro (cs_vy hP hk16) (nm_r (e' := x + (nI k + 1) * b (16 * P + k)) (by rw [cs_cy hP hk16]) (nm_r (nI_1 k) (KY post h))))⟩
/-- the reference's sum is 0 just if the page is blank -/
theorem cs_sumY (hP : P < 12) (hB : cs_B b) {post : Int32 → Prop} (K : ∀ S, S < 2 ^ 31 → (S = 0 ↔ ∀ i, i < 16 → b (16 * P + i) = 0) → post (nI S)) : ∀ d k S, k + d = 16 → S ≤ 4080 * k → (S = 0 ↔ ∀ i, i < k → b (16 * P + i) = 0) → wY_sum_14 post (nI P) b (d + 1) (nI S) (nI k) := by
  intro d
  induction d with
  | zero =>
    intro k S hk hS hz
    have e : k = 16 := by omega
    subst e
    exact br_t (nI_le (a := 16) (by omega) (by omega)) (K S (by omega) hz)
  | succ d ih =>
    intro k S hk hS hz
    have hk16 : k < 16 := by omega
    obtain ⟨v, hv, ev⟩ := hB (16 * P + k) (by omega)
    have hm : (k + 1) * v ≤ 4080 := Nat.le_trans (Nat.mul_le_mul (show k + 1 ≤ 16 by omega) (show v ≤ 255 by omega)) (by decide)
    have hm0 : (k + 1) * v = 0 ↔ v = 0 := by
      constructor
      · intro h
        rcases Nat.mul_eq_zero.mp h with h | h <;> omega
      · intro h
        rw [h]
        rfl
    have b0 : b (16 * P + k) = 0 ↔ v = 0 := by
      rw [ev, ← nI_0]
      exact nI_eq (by omega) (by omega)
    refine br_f (nI_ge (b := 16) (by omega) (by omega)) (And.intro (cs_vy hP hk16) (nm_r (e' := nI (S + (k + 1) * v)) (by rw [cs_cy hP hk16, ev, nI_1, pk_mul, nI_add]) (nm_r (nI_1 k) (ih (k + 1) _ (by omega) (by omega) ?_))))
    constructor
    · intro h i hi
      have h1 : S = 0 := by omega
      have h2 : v = 0 := hm0.mp (by omega)
      by_cases e : i = k
      · rw [e]
        exact b0.mpr h2
      · exact hz.mp h1 i (by omega)
    · intro h
      have h1 : S = 0 := hz.mpr (fun i hi => h i (by omega))
      have h2 := hm0.mpr (b0.mp (h k (by omega)))
      omega
/-! the first difference -/
def cs_fd (g h : Nat → Int32) : Nat → Nat → Int32
  | 0 => fun _ => -4
  | d + 1 => fun k => if g k = h k then cs_fd g h d (k + 1) else nI k
theorem cs_fdX {f : Nat} {g h : Nat → Int32} (hf : f < 3) (hg : ∀ i, i < 16 → he i = g i) (hh : ∀ i, i < 16 → fr (f * 16 + i) = h i) {post : Int32 → SX → Prop} : ∀ d k, k + d = 16 → post (cs_fd g h d k) (ck, pz, kd, pl, fr, fp, fs, po, pp, ps, pt, sl, sp, pk, pn, he) → wX_firstDifference_8 post (nI (f * 16)) ck pz kd pl fr fp fs po pp ps pt sl sp pk pn he (d + 1) (nI k) := by
  intro d
  induction d with
  | zero =>
    intro k hk hp
    exact br_t (nI_le (a := 16) (by omega) (by omega)) hp
  | succ d ih =>
    intro k hk hp
    have hk16 : k < 16 := by omega
    have ck1 : (nI k).toNatClampNeg = k := nI_clamp (by omega)
    refine br_f (nI_ge (b := 16) (by omega) (by omega)) (And.intro (cs_vx hf hk16) (And.intro (vp_in_nI hk16 (by decide)) ?_))
    rw [cs_cx hf hk16, ck1, hg k hk16, hh k hk16]
    unfold cs_fd at hp
    refine br_c (fun q => nm_r (nI_1 k) (ih (k + 1) (by omega) ?_)) (fun q => ?_)
    · rw [if_pos q.symm] at hp
      exact hp
    · rw [if_neg (fun w => q w.symm)] at hp
      exact hp
theorem cs_fdY (hP : P < 12) (hQ : Q < 12) {post : Int32 → Prop} : ∀ d k, k + d = 16 → post (cs_fd (fun i => b (16 * P + i)) (fun i => b (16 * Q + i)) d k) → wY_differ_20 post (nI P) (nI Q) b (d + 1) (nI k) := by
  intro d
  induction d with
  | zero =>
    intro k hk hp
    exact br_t (nI_le (a := 16) (by omega) (by omega)) hp
  | succ d ih =>
    intro k hk hp
    have hk16 : k < 16 := by omega
    refine br_f (nI_ge (b := 16) (by omega) (by omega)) (And.intro (cs_vy hP hk16) (And.intro (cs_vy hQ hk16) ?_))
    rw [cs_cy hP hk16, cs_cy hQ hk16]
    unfold cs_fd at hp
    refine br_c (fun q => nm_r (nI_1 k) (ih (k + 1) (by omega) ?_)) (fun q => ?_)
    · rw [if_pos q] at hp
      exact hp
    · rw [if_neg q] at hp
      exact hp
theorem cs_ydiffer (hP : P < 12) (hQ : Q < 12) {post : Int32 → Prop} (h : post (cs_fd (fun i => b (16 * P + i)) (fun i => b (16 * Q + i)) 16 0)) : wpY_differ post b (nI P) (nI Q) := by
  unfold wpY_differ
  exact cs_ipo hP (br_f (by decide) (cs_ipo hQ (br_f (by decide) (Exists.intro 17 (cs_fdY hP hQ 16 0 rfl h)))))
theorem cs_firstDiff {post : Int32 → SX → Prop} (hQ : Q < 12) (I : cs_Inv c l b kd pl fr fp po pp ps sl sp) (hh : ∀ i, i < 16 → he i = b (16 * P + i))
    (K : ∀ c' l' ck1 pz1 kd1 pl1 fr1 fp1 fs1 po1 pp1 ps1 pt1 sl1 sp1 pk1 pn1, cs_Inv c' l' b kd1 pl1 fr1 fp1 po1 pp1 ps1 sl1 sp1 → post (cs_fd (fun i => b (16 * P + i)) (fun i => b (16 * Q + i)) 16 0) (ck1, pz1, kd1, pl1, fr1, fp1, fs1, po1, pp1, ps1, pt1, sl1, sp1, pk1, pn1, he)) : wpX_firstDifference post (ck, pz, kd, pl, fr, fp, fs, po, pp, ps, pt, sl, sp, pk, pn, he) (nI Q) := by
  unfold wpX_firstDifference
  refine cs_bring hQ I ?_
  intro c' l' ck1 pz1 kd1 pl1 fr1 fp1 fs1 po1 pp1 ps1 pt1 sl1 sp1 pk1 pn1 A A1
  obtain ⟨l3, -, hH⟩ := A.2.1.1 Q hQ A1
  exact Exists.intro 17 (cs_fdX l3 hh hH 16 0 rfl (K _ _ _ _ _ _ _ _ _ _ _ _ _ _ _ _ _ A))
/-! find -/
theorem cs_findL {f : Nat} {w : Int32} (hP : P < 12) (hf : f < 3) (hH : cs_H fr b f P) : ∀ d k, k + d = 16 →
    ∃ r, (∀ post : Int32 → SX → Prop, post r (ck, pz, kd, pl, fr, fp, fs, po, pp, ps, pt, sl, sp, pk, pn, he) → wX_find_36 post w (nI (f * 16)) ck pz kd pl fr fp fs po pp ps pt sl sp pk pn he (d + 1) (nI k)) ∧ (∀ post : Int32 → Prop, post r → wY_find_29 post (nI P) w b (d + 1) (nI k)) := by
  intro d
  induction d with
  | zero =>
    intro k hk
    have g : (16 : Int32) ≤ nI k := nI_le (a := 16) (by omega) (by omega)
    exact ⟨-4, fun post h => br_t g h, fun post h => br_t g h⟩
  | succ d ih =>
    intro k hk
    have hk16 : k < 16 := by omega
    have g : ¬ (16 : Int32) ≤ nI k := nI_ge (b := 16) (by omega) (by omega)
    by_cases q : b (16 * P + k) = w
    · refine ⟨nI k, fun post h => br_f g (And.intro (cs_vx hf hk16) (br_t (by rw [cs_cx hf hk16, hH k hk16]; exact q) h)), fun post h => br_f g (And.intro (cs_vy hP hk16) (br_t (by rw [cs_cy hP hk16]; exact q) h))⟩
    · obtain ⟨r, KX, KY⟩ := ih (k + 1) (by omega)
      refine ⟨r, fun post h => br_f g (And.intro (cs_vx hf hk16) (br_f (by rw [cs_cx hf hk16, hH k hk16]; exact q) (nm_r (nI_1 k) (KX post h)))), fun post h => br_f g (And.intro (cs_vy hP hk16) (br_f (by rw [cs_cy hP hk16]; exact q) (nm_r (nI_1 k) (KY post h))))⟩
/-! drop -/
theorem cs_dropL (hP : P < 12) {post : Int32 → SY → Prop} (K : post 0 (cs_zp b P)) : ∀ d k b1, k + d = 16 → (∀ j, b1 j = if j / 16 = P ∧ j % 16 < k then 0 else b j) → wY_drop_12 post (nI P) (d + 1) (nI k) b1 := by
  intro d
  induction d with
  | zero =>
    intro k b1 hk hb
    have e : b1 = cs_zp b P := by
      funext j
      rw [hb j]
      unfold cs_zp
      by_cases q : j / 16 = P
      · rw [if_pos ⟨q, by omega⟩, if_pos q]
      · rw [if_neg (fun h => q h.1), if_neg q]
    rw [e]
    exact br_t (nI_le (a := 16) (by omega) (by omega)) K
  | succ d ih =>
    intro k b1 hk hb
    have hk16 : k < 16 := by omega
    refine br_f (nI_ge (b := 16) (by omega) (by omega)) (And.intro (cs_vy hP hk16) (nm_r (e' := upd b1 (16 * P + k) 0) (by rw [cs_cy hP hk16]) (nm_r (nI_1 k) (ih (k + 1) _ (by omega) (fun j => ?_)))))
    by_cases q : j = 16 * P + k
    · rw [q, pk_us, if_pos (by omega)]
    · rw [pk_un q, hb j]
      by_cases w : j / 16 = P ∧ j % 16 < k
      · rw [if_pos w, if_pos (by omega)]
      · rw [if_neg w, if_neg (by omega)]
/-! exchange -/
theorem cs_exL (hP : P < 12) (hQ : Q < 12) {post : Int32 → SY → Prop} (K : ∀ b', (∀ p, p < 12 → ∀ i, i < 16 → b' (16 * p + i) = b (16 * cs_tr P Q p + i)) → post 0 b') :
    ∀ d k b1, k + d = 16 → (∀ j, b1 j = if j % 16 < k then b (16 * cs_tr P Q (j / 16) + j % 16) else b j) → wY_exchange_20 post (nI P) (nI Q) (d + 1) (nI k) b1 := by
  intro d
  induction d with
  | zero =>
    intro k b1 hk hb
    refine br_t (nI_le (a := 16) (by omega) (by omega)) (K b1 (fun p hp i hi => ?_))
    have e1 : (16 * p + i) / 16 = p := by omega
    have e2 : (16 * p + i) % 16 = i := by omega
    rw [hb, e1, e2, if_pos (by omega)]
  | succ d ih =>
    intro k b1 hk hb
    have hk16 : k < 16 := by omega
    have a1 : b1 (16 * P + k) = b (16 * P + k) := by rw [hb, if_neg (by omega)]
    have a2 : b1 (16 * Q + k) = b (16 * Q + k) := by rw [hb, if_neg (by omega)]
    refine br_f (nI_ge (b := 16) (by omega) (by omega)) ?_
    rw [cs_cy hP hk16, cs_cy hQ hk16]
    refine And.intro (cs_vy hP hk16) (nm_r a1 (And.intro (cs_vy hQ hk16) (And.intro (cs_vy hP hk16) (nm_r (e' := upd b1 (16 * P + k) (b (16 * Q + k))) (by rw [a2]) (And.intro (cs_vy hQ hk16) (nm_e (nm_r (nI_1 k) (ih (k + 1) _ (by omega) (fun j => ?_)))))))))
    by_cases q : j = 16 * Q + k
    · have e1 : j / 16 = Q := by omega
      have e2 : j % 16 = k := by omega
      rw [e1, e2, if_pos (by omega), cs_trQ, q, pk_us]
    · rw [pk_un q]
      by_cases p : j = 16 * P + k
      · have e1 : j / 16 = P := by omega
        have e2 : j % 16 = k := by omega
        rw [e1, e2, if_pos (by omega), cs_trP, p, pk_us]
      · rw [pk_un p, hb j]
        by_cases w : j % 16 < k
        · rw [if_pos w, if_pos (by omega)]
        · rw [if_neg w]
          by_cases w2 : j % 16 < k + 1
          · have e3 : 16 * (j / 16) + j % 16 = j := by omega
            rw [if_pos w2, cs_trN (by omega) (by omega), e3]
          · rw [if_neg w2]
theorem cs_clT {κ k j p : Nat} {ow : Nat → Int32} (h : k = κ) : cs_cl κ k j p ow = upd ow j (nI p) := if_pos h
theorem cs_clF {κ k j p : Nat} {ow : Nat → Int32} (h : k ≠ κ) : cs_cl κ k j p ow = ow := if_neg h
theorem cs_claim {post : SX → Prop} {p k j : Nat} (hp : p < 12) (hk : kd p = nI k) (hk4 : k < 4) (hl : pl p = nI j) (h1 : k = 1 → j < 3) (h2 : k = 2 → j < 8) (h3 : k = 3 → j < 12)
    (K : post (ck, pz, kd, pl, fr, cs_cl 1 k j p fp, fs, po, cs_cl 2 k j p pp, ps, pt, sl, cs_cl 3 k j p sp, pk, pn, he)) : wpX_claim post (ck, pz, kd, pl, fr, fp, fs, po, pp, ps, pt, sl, sp, pk, pn, he) (nI p) := by
  have vp : vp_in (nI p) 12 := vp_in_nI hp (by decide)
  refine And.intro vp ?_
  rw [nI_clamp (by omega), hk, hl]
  have cases : k = 0 ∨ k = 1 ∨ k = 2 ∨ k = 3 := by omega
  rcases cases with e | e | e | e
  · subst e
    rw [cs_clF (by decide), cs_clF (by decide), cs_clF (by decide)] at K
    exact br_f (by decide) (And.intro vp (br_f (by decide) (And.intro vp (br_f (by decide) K))))
  · subst e
    have hj := h1 rfl
    rw [cs_clT rfl, cs_clF (by decide), cs_clF (by decide)] at K
    exact br_t (by decide) (And.intro vp (And.intro (vp_in_nI hj (by decide)) (nm_r (cs_ua fp (by omega) _) K)))
  · subst e
    have hj := h2 rfl
    rw [cs_clF (by decide), cs_clT rfl, cs_clF (by decide)] at K
    exact br_f (by decide) (And.intro vp (br_t (by decide) (And.intro vp (And.intro (vp_in_nI hj (by decide)) (nm_r (cs_ua pp (by omega) _) K)))))
  · subst e
    have hj := h3 rfl
    rw [cs_clF (by decide), cs_clF (by decide), cs_clT rfl] at K
    exact br_f (by decide) (And.intro vp (br_f (by decide) (And.intro vp (br_t (by decide) (And.intro vp (And.intro (vp_in_nI hj (by decide)) (nm_r (cs_ua sp (by omega) _) K)))))))
end
end
section
section
variable {ck pz : Int32} {kd pl fr fp fs po pp ps pt sl sp pk pn he : Nat → Int32}
variable {c l : Nat → Nat} {b : Nat → Int32} {P Q : Nat}
/-! blank -/
theorem cs_b46 {post : Int32 → Prop} {J : Int32 → Int32 → Prop} {x1 : Int32} {q : Nat} (h : J (x1 + 1) (nI (q + 1))) : wX_blank_46 post J x1 (nI q) 1 ck pz kd pl fr fp fs po pp ps pt sl sp pk pn he := br_f (by decide) (nm_e (nm_r (nI_1 q) h))
theorem cs_b46n {post : Int32 → Prop} {J : Int32 → Int32 → Prop} {x1 : Int32} {q : Nat} (h : J x1 (nI (q + 1))) : wX_blank_46 post J x1 (nI q) 0 ck pz kd pl fr fp fs po pp ps pt sl sp pk pn he := br_t rfl (nm_r (nI_1 q) h)
theorem cs_blankL (I : cs_Inv c l b kd pl fr fp po pp ps sl sp) : ∀ d q x1, q + d = 12 →
    ∃ r, (∀ post : Int32 → Prop, post r → wX_blank_4 post ck pz kd pl fr fp fs po pp ps pt sl sp pk pn he (d + 1) x1 (nI q)) ∧ (∀ post : Int32 → Prop, post r → wY_blank_4 post b (d + 1) x1 (nI q)) := by
  obtain ⟨h0, h1, h2, h3, h4, h5, h6⟩ := I
  intro d
  induction d with
  | zero =>
    intro q x1 hq
    have g : (12 : Int32) ≤ nI q := nI_le (a := 12) (by omega) (by omega)
    exact ⟨x1, fun post h => br_t g h, fun post h => br_t g h⟩
  | succ d ih =>
    intro q x1 hq
    have hq12 : q < 12 := by omega
    have g : ¬ (12 : Int32) ≤ nI q := nI_ge (b := 12) (by omega) (by omega)
    have vq : vp_in (nI q) 12 := vp_in_nI hq12 (by decide)
    have cq : (nI q).toNatClampNeg = q := nI_clamp (by omega)
    obtain ⟨hc4, hk, hl⟩ := h0 q hq12
    by_cases bl : ∀ i, i < 16 → b (16 * q + i) = 0
    · obtain ⟨r, KX, KY⟩ := ih (q + 1) (x1 + 1) (by omega)
      refine ⟨r, fun post h => br_f g (And.intro vq ?_), fun post h => br_f g ?_⟩
      · rw [cq, hk]
        refine pk_eq (c q) 0 (fun e0 => And.intro vq ?_) (fun e0 => And.intro vq ?_)
        · rw [cq, hk]
          exact pk_eq (c q) 1 (fun e1 => by omega) (fun e1 => cs_b46 (KX post h))
        · rw [cq, hk, hl]
          refine pk_eq (c q) 1 (fun e1 => And.intro vq ?_) (fun e1 => ?_)
          · obtain ⟨l3, -, hH⟩ := h1.1 q hq12 e1
            refine cs_blankFrame l3 (fun _ => cs_b46 (KX post h)) (fun ⟨i, hi, hn⟩ => ?_)
            rw [hH i hi] at hn
            exact absurd (bl i hi) hn
          · obtain ⟨i, hi, hn⟩ := (h4 q hq12).2 (by omega)
            exact absurd (bl i hi) hn
      · unfold wpY_sum
        refine cs_ipo hq12 (br_f (by decide) (Exists.intro 17 ?_))
        refine cs_sumY hq12 h6 (fun S hS hz => ?_) 16 0 0 (by omega) (by omega) ⟨fun _ i hi => absurd hi (Nat.not_lt_zero i), fun _ => rfl⟩
        exact pk_eq S 0 (fun e => nm_e (nm_r (nI_1 q) (KY post h))) (fun e => absurd (hz.mpr bl) e)
    · obtain ⟨r, KX, KY⟩ := ih (q + 1) x1 (by omega)
      refine ⟨r, fun post h => br_f g (And.intro vq ?_), fun post h => br_f g ?_⟩
      · rw [cq, hk]
        refine pk_eq (c q) 0 (fun e0 => absurd ((h4 q hq12).1 e0) bl) (fun e0 => And.intro vq ?_)
        rw [cq, hk, hl]
        refine pk_eq (c q) 1 (fun e1 => And.intro vq ?_) (fun e1 => cs_b46n (KX post h))
        obtain ⟨l3, -, hH⟩ := h1.1 q hq12 e1
        refine cs_blankFrame l3 (fun hz => absurd (fun i hi => ?_) bl) (fun _ => cs_b46n (KX post h))
        rw [← hH i hi]
        exact hz i hi
      · unfold wpY_sum
        refine cs_ipo hq12 (br_f (by decide) (Exists.intro 17 ?_))
        refine cs_sumY hq12 h6 (fun S hS hz => ?_) 16 0 0 (by omega) (by omega) ⟨fun _ i hi => absurd hi (Nat.not_lt_zero i), fun _ => rfl⟩
        exact pk_eq S 0 (fun e => absurd (hz.mp e) bl) (fun e => nm_r (nI_1 q) (KY post h))
end
section
variable {b : Nat → Int32} {P : Nat}
/-! twin -/
theorem cs_twinL (hP : P < 12) : ∀ d q, q + d = 12 →
    ∃ r, (∀ post : Int32 → Prop, post r → wY_twin_12 post (nI P) b (d + 1) (nI q)) ∧
      (∀ (post : Int32 → SX → Prop) c l ck pz kd pl fr fp fs po pp ps pt sl sp pk pn he, cs_Inv c l b kd pl fr fp po pp ps sl sp → (∀ i, i < 16 → he i = b (16 * P + i)) →
        (∀ c' l' ck1 pz1 kd1 pl1 fr1 fp1 fs1 po1 pp1 ps1 pt1 sl1 sp1 pk1 pn1 he1, cs_Inv c' l' b kd1 pl1 fr1 fp1 po1 pp1 ps1 sl1 sp1 → post r (ck1, pz1, kd1, pl1, fr1, fp1, fs1, po1, pp1, ps1, pt1, sl1, sp1, pk1, pn1, he1)) → wX_twin_17 post (nI P) (d + 1) (nI q) ck pz kd pl fr fp fs po pp ps pt sl sp pk pn he) := by
  intro d
  induction d with
  | zero =>
    intro q hq
    have g : (12 : Int32) ≤ nI q := nI_le (a := 12) (by omega) (by omega)
    refine ⟨-4, fun post h => br_t g h, ?_⟩
    intro post c l ck pz kd pl fr fp fs po pp ps pt sl sp pk pn he I hh K
    exact br_t g (K c l ck pz kd pl fr fp fs po pp ps pt sl sp pk pn he I)
  | succ d ih =>
    intro q hq
    have hq12 : q < 12 := by omega
    have g : ¬ (12 : Int32) ≤ nI q := nI_ge (b := 12) (by omega) (by omega)
    obtain ⟨r, KY, KX⟩ := ih (q + 1) (by omega)
    by_cases e : q = P
    · refine ⟨r, fun post h => br_f g (br_t (by rw [e]) (nm_r (nI_1 q) (KY post h))), ?_⟩
      intro post c l ck pz kd pl fr fp fs po pp ps pt sl sp pk pn he I hh K
      exact br_f g (br_t (by rw [e]) (nm_r (nI_1 q) (KX post c l ck pz kd pl fr fp fs po pp ps pt sl sp pk pn he I hh K)))
    · have ne : ¬ nI q = nI P := fun h => e (cs_inj hq12 hP h)
      by_cases z : cs_fd (fun i => b (16 * P + i)) (fun i => b (16 * q + i)) 16 0 = -4
      · refine ⟨nI q, fun post h => br_f g (br_f ne (cs_ydiffer hP hq12 (br_t z h))), ?_⟩
        intro post c l ck pz kd pl fr fp fs po pp ps pt sl sp pk pn he I hh K
        refine br_f g (br_f ne (cs_firstDiff hq12 I hh ?_))
        intro c' l' ck1 pz1 kd1 pl1 fr1 fp1 fs1 po1 pp1 ps1 pt1 sl1 sp1 pk1 pn1 A
        exact br_t z (K c' l' ck1 pz1 kd1 pl1 fr1 fp1 fs1 po1 pp1 ps1 pt1 sl1 sp1 pk1 pn1 he A)
      · refine ⟨r, fun post h => br_f g (br_f ne (cs_ydiffer hP hq12 (br_f z (nm_r (nI_1 q) (KY post h))))), ?_⟩
        intro post c l ck pz kd pl fr fp fs po pp ps pt sl sp pk pn he I hh K
        refine br_f g (br_f ne (cs_firstDiff hq12 I hh ?_))
        intro c' l' ck1 pz1 kd1 pl1 fr1 fp1 fs1 po1 pp1 ps1 pt1 sl1 sp1 pk1 pn1 A
        exact br_f z (nm_r (nI_1 q) (KX post c' l' ck1 pz1 kd1 pl1 fr1 fp1 fs1 po1 pp1 ps1 pt1 sl1 sp1 pk1 pn1 he A hh K))
/-! flush, rest -/
theorem cs_flushL {x1 : Int32} {post : SX → Prop} (K : ∀ c' l' ck1 pz1 kd1 pl1 fr1 fp1 fs1 po1 pp1 ps1 pt1 sl1 sp1 pk1 pn1 he1, cs_Inv c' l' b kd1 pl1 fr1 fp1 po1 pp1 ps1 sl1 sp1 → post (ck1, pz1, kd1, pl1, fr1, fp1, fs1, po1, pp1, ps1, pt1, sl1, sp1, pk1, pn1, he1)) : ∀ d q c l ck pz kd pl fr fp fs po pp ps pt sl sp pk pn he, q + d = 4 → cs_Inv c l b kd pl fr fp po pp ps sl sp → wX_flush_2 post x1 (d + 1) (nI q) ck pz kd pl fr fp fs po pp ps pt sl sp pk pn he := by
  intro d
  induction d with
  | zero =>
    intro q c l ck pz kd pl fr fp fs po pp ps pt sl sp pk pn he hq I
    exact br_c (fun _ => K c l ck pz kd pl fr fp fs po pp ps pt sl sp pk pn he I) (fun _ => br_t (nI_le (a := 4) (by omega) (by omega)) (K c l ck pz kd pl fr fp fs po pp ps pt sl sp pk pn he I))
  | succ d ih =>
    intro q c l ck pz kd pl fr fp fs po pp ps pt sl sp pk pn he hq I
    have hpp : cs_Ow pp 8 := fun e he8 => cs_ows I.2.2.1 he8
    refine br_c (fun _ => K c l ck pz kd pl fr fp fs po pp ps pt sl sp pk pn he I) (fun _ => br_f (nI_ge (b := 4) (by omega) (by omega)) (cs_oldest hpp (fun f hf => br_f (nI_pos (by omega)) (cs_writeBack hf I ?_)) (fun _ => br_t (by decide) (nm_r (nI_1 q) (ih (q + 1) c l ck pz kd pl fr fp fs po pp ps pt sl sp pk pn he (by omega) I)))))
    intro c' l' kd' pl' pp' sl' sp' pn' A _ _ _
    exact nm_r (nI_1 q) (ih (q + 1) c' l' _ _ _ _ _ _ _ _ _ _ _ _ _ _ _ _ (by omega) A)
theorem cs_restL {x1 : Int32} {post : SX → Prop} (K : ∀ c' l' ck1 pz1 kd1 pl1 fr1 fp1 fs1 po1 pp1 ps1 pt1 sl1 sp1 pk1 pn1 he1, cs_Inv c' l' b kd1 pl1 fr1 fp1 po1 pp1 ps1 sl1 sp1 → post (ck1, pz1, kd1, pl1, fr1, fp1, fs1, po1, pp1, ps1, pt1, sl1, sp1, pk1, pn1, he1)) : ∀ d q c l ck pz kd pl fr fp fs po pp ps pt sl sp pk pn he, q + d = 12 → cs_Inv c l b kd pl fr fp po pp ps sl sp → wX_rest_2 post x1 (d + 1) (nI q) ck pz kd pl fr fp fs po pp ps pt sl sp pk pn he := by
  intro d
  induction d with
  | zero =>
    intro q c l ck pz kd pl fr fp fs po pp ps pt sl sp pk pn he hq I
    exact br_c (fun _ => K c l ck pz kd pl fr fp fs po pp ps pt sl sp pk pn he I) (fun _ => br_t (nI_le (a := 12) (by omega) (by omega)) (K c l ck pz kd pl fr fp fs po pp ps pt sl sp pk pn he I))
  | succ d ih =>
    intro q c l ck pz kd pl fr fp fs po pp ps pt sl sp pk pn he hq I
    refine br_c (fun _ => K c l ck pz kd pl fr fp fs po pp ps pt sl sp pk pn he I) (fun _ => br_f (nI_ge (b := 12) (by omega) (by omega)) (cs_bring (P := q) (by omega) I ?_))
    intro c' l' ck1 pz1 kd1 pl1 fr1 fp1 fs1 po1 pp1 ps1 pt1 sl1 sp1 pk1 pn1 A _
    exact nm_r (nI_1 q) (ih (q + 1) c' l' ck1 pz1 kd1 pl1 fr1 fp1 fs1 po1 pp1 ps1 pt1 sl1 sp1 pk1 pn1 he (by omega) A)
end
section
variable {ck pz : Int32} {kd pl fr fp fs po pp ps pt sl sp pk pn he : Nat → Int32}
/-! the constructor -/
theorem cs_i157 {post : SX → Prop} (K : post (ck, pz, kd, pl, fr, fp, fs, po, pp, ps, pt, sl, cs_cp sp 0 (fun _ => -1) 12, pk, pn, he)) : ∀ d k, k + d = 12 → wX_init_157 post ck pz (d + 1) (nI k) kd pl fr fp fs po pp ps pt sl (cs_cp sp 0 (fun _ => -1) k) pk pn he := by
  intro d
  induction d with
  | zero =>
    intro k hk
    have e : k = 12 := by omega
    subst e
    exact br_t (nI_le (a := 12) (by omega) (by omega)) K
  | succ d ih =>
    intro k hk
    exact br_f (nI_ge (b := 12) (by omega) (by omega)) (And.intro (vp_in_nI (by omega) (by decide)) (nm_r (e' := cs_cp sp 0 (fun _ => -1) (k + 1)) (by rw [nI_clamp (by omega), ← cs_cpS0]) (nm_r (nI_1 k) (ih (k + 1) (by omega)))))
theorem cs_i136 {post : SX → Prop} (K : post (ck, pz, kd, pl, fr, fp, fs, po, cs_cp pp 0 (fun _ => -1) 8, ps, pt, sl, cs_cp sp 0 (fun _ => -1) 12, pk, pn, he)) : ∀ d k, k + d = 8 → wX_init_136 post ck pz (d + 1) (nI k) kd pl fr fp fs po (cs_cp pp 0 (fun _ => -1) k) ps pt sl sp pk pn he := by
  intro d
  induction d with
  | zero =>
    intro k hk
    have e : k = 8 := by omega
    subst e
    have h := cs_i157 K 12 0 (by omega)
    rw [cs_cp0] at h
    exact br_t (nI_le (a := 8) (by omega) (by omega)) (Exists.intro 13 h)
  | succ d ih =>
    intro k hk
    exact br_f (nI_ge (b := 8) (by omega) (by omega)) (And.intro (vp_in_nI (by omega) (by decide)) (nm_r (e' := cs_cp pp 0 (fun _ => -1) (k + 1)) (by rw [nI_clamp (by omega), ← cs_cpS0]) (nm_r (nI_1 k) (ih (k + 1) (by omega)))))
theorem cs_i116 {post : SX → Prop} (K : post (ck, pz, kd, pl, fr, cs_cp fp 0 (fun _ => -1) 3, fs, po, cs_cp pp 0 (fun _ => -1) 8, ps, pt, sl, cs_cp sp 0 (fun _ => -1) 12, pk, pn, he)) : ∀ d k, k + d = 3 → wX_init_116 post ck pz (d + 1) (nI k) kd pl fr (cs_cp fp 0 (fun _ => -1) k) fs po pp ps pt sl sp pk pn he := by
  intro d
  induction d with
  | zero =>
    intro k hk
    have e : k = 3 := by omega
    subst e
    have h := cs_i136 K 8 0 (by omega)
    rw [cs_cp0] at h
    exact br_t (nI_le (a := 3) (by omega) (by omega)) (Exists.intro 9 h)
  | succ d ih =>
    intro k hk
    exact br_f (nI_ge (b := 3) (by omega) (by omega)) (And.intro (vp_in_nI (by omega) (by decide)) (nm_r (e' := cs_cp fp 0 (fun _ => -1) (k + 1)) (by rw [nI_clamp (by omega), ← cs_cpS0]) (nm_r (nI_1 k) (ih (k + 1) (by omega)))))
theorem cs_Inv0 {fp pp sp : Nat → Int32} (h1 : ∀ j, j < 3 → fp j = -1) (h2 : ∀ j, j < 8 → pp j = -1) (h3 : ∀ j, j < 12 → sp j = -1) : cs_Inv (fun _ => 0) (fun _ => 0) (fun _ => 0) (fun _ => 0) (fun _ => 0) fr fp po pp ps sl sp :=
  ⟨fun p hp => ⟨(by decide : 0 < 4), nI_0.symm, nI_0.symm⟩, ⟨fun p hp h => absurd h (by decide : ¬ 0 = 1), fun j hj => Or.inl (h1 j hj)⟩, ⟨fun p hp h => absurd h (by decide : ¬ 0 = 2), fun j hj => Or.inl (h2 j hj)⟩, ⟨fun p hp h => absurd h (by decide : ¬ 0 = 3), fun j hj => Or.inl (h3 j hj)⟩,
    fun p hp => ⟨fun _ i hi => rfl, fun h => absurd h (by decide : ¬ 2 ≤ 0)⟩, fun f hf h => absurd (h2 _ (by omega)) h, fun j hj => ⟨0, by decide, nI_0.symm⟩⟩
end
end
section
section
variable {ck pz : Int32} {kd pl fr fp fs po pp ps pt sl sp pk pn he : Nat → Int32}
variable {c l : Nat → Nat} {b : Nat → Int32}
theorem cs_m_write {k : Nat} (I : cs_Inv c l b kd pl fr fp po pp ps sl sp) (v1 v2 v3 : Int32) : wpX_write (fun r u' => wpY_write (fun r' v' => r' = r ∧ i_Rel (k + 5) u' v') b v1 v2 v3) (ck, pz, kd, pl, fr, fp, fs, po, pp, ps, pt, sl, sp, pk, pn, he) v1 v2 v3 := by
  unfold wpX_write
  rcases cs_ix 12 (by decide) v1 with ⟨P, hP, rfl⟩ | n1
  rotate_left
  · refine cs_bpn n1 (br_f (by decide) ?_)
    unfold wpY_write
    exact cs_ipn n1 (br_t rfl (And.intro rfl (cs_rel I)))
  refine cs_bpo hP (br_t rfl ?_)
  rcases cs_ix 16 (by decide) v2 with ⟨i, hi, rfl⟩ | n2
  rotate_left
  · refine cs_bln n2 (br_f (by decide) ?_)
    unfold wpY_write
    exact cs_ipo hP (br_f (by decide) (cs_iln n2 (br_t rfl (And.intro rfl (cs_rel I)))))
  refine cs_blo hi (br_t rfl ?_)
  rcases cs_ix 256 (by decide) v3 with ⟨w, hw, rfl⟩ | n3
  rotate_left
  · refine cs_bbn n3 (br_f (by decide) ?_)
    unfold wpY_write
    exact cs_ipo hP (br_f (by decide) (cs_ilo hi (br_f (by decide) (cs_ibn n3 (br_t rfl (And.intro rfl (cs_rel I)))))))
  refine cs_bbo hw (br_t rfl ?_)
  refine cs_bring hP I ?_
  intro c' l' ck1 pz1 kd1 pl1 fr1 fp1 fs1 po1 pp1 ps1 pt1 sl1 sp1 pk1 pn1 A A1
  obtain ⟨l3, -, hH⟩ := A.2.1.1 P hP A1
  refine And.intro (cs_vx l3 hi) (nm_r (e' := b (16 * P + i)) (by rw [cs_cx l3 hi]; exact hH i hi) (And.intro (cs_vx l3 hi) (nm_r (e' := upd fr1 (l' P * 16 + i) (nI w)) (by rw [cs_cx l3 hi]) ?_)))
  unfold wpY_write
  refine cs_ipo hP (br_f (by decide) (cs_ilo hi (br_f (by decide) (cs_ibo hw (br_f (by decide) (?_))))))
  exact And.intro (cs_vy hP hi) (nm_r (e' := b (16 * P + i)) (by rw [cs_cy hP hi]) (And.intro (cs_vy hP hi) (nm_r (e' := upd b (16 * P + i) (nI w)) (by rw [cs_cy hP hi]) (And.intro rfl (cs_rel (cs_InvW A hP A1 hi hw))))))
theorem cs_m_read {k : Nat} (I : cs_Inv c l b kd pl fr fp po pp ps sl sp) (v1 v2 : Int32) : wpX_read (fun r u' => wpY_read (fun r' => r' = r ∧ i_Rel (k + 5) u' b) b v1 v2) (ck, pz, kd, pl, fr, fp, fs, po, pp, ps, pt, sl, sp, pk, pn, he) v1 v2 := by
  unfold wpX_read
  rcases cs_ix 12 (by decide) v1 with ⟨P, hP, rfl⟩ | n1
  rotate_left
  · refine cs_bpn n1 (br_f (by decide) ?_)
    unfold wpY_read
    exact cs_ipn n1 (br_t rfl (And.intro rfl (cs_rel I)))
  refine cs_bpo hP (br_t rfl ?_)
  rcases cs_ix 16 (by decide) v2 with ⟨i, hi, rfl⟩ | n2
  rotate_left
  · refine cs_bln n2 (br_f (by decide) ?_)
    unfold wpY_read
    exact cs_ipo hP (br_f (by decide) (cs_iln n2 (br_t rfl (And.intro rfl (cs_rel I)))))
  refine cs_blo hi (br_t rfl ?_)
  refine cs_bring hP I ?_
  intro c' l' ck1 pz1 kd1 pl1 fr1 fp1 fs1 po1 pp1 ps1 pt1 sl1 sp1 pk1 pn1 A A1
  obtain ⟨l3, -, hH⟩ := A.2.1.1 P hP A1
  refine And.intro (cs_vx l3 hi) ?_
  rw [cs_cx l3 hi, hH i hi]
  unfold wpY_read
  refine cs_ipo hP (br_f (by decide) (cs_ilo hi (br_f (by decide) (?_))))
  exact And.intro (cs_vy hP hi) (And.intro (by rw [cs_cy hP hi]) (cs_rel A))
theorem cs_m_fill {k : Nat} (I : cs_Inv c l b kd pl fr fp po pp ps sl sp) (v1 v2 v3 v4 : Int32) : wpX_fill (fun r u' => wpY_fill (fun r' v' => r' = r ∧ i_Rel (k + 5) u' v') b v1 v2 v3 v4) (ck, pz, kd, pl, fr, fp, fs, po, pp, ps, pt, sl, sp, pk, pn, he) v1 v2 v3 v4 := by
  unfold wpX_fill
  rcases cs_ix 12 (by decide) v1 with ⟨P, hP, rfl⟩ | n1
  rotate_left
  · refine cs_bpn n1 (br_f (by decide) ?_)
    unfold wpY_fill
    exact cs_ipn n1 (br_t rfl (And.intro rfl (cs_rel I)))
  refine cs_bpo hP (br_t rfl ?_)
  rcases cs_ix 16 (by decide) v2 with ⟨s, hs, rfl⟩ | n2
  rotate_left
  · refine cs_bln n2 (br_f (by decide) ?_)
    unfold wpY_fill
    exact cs_ipo hP (br_f (by decide) (cs_iln n2 (br_t rfl (And.intro rfl (cs_rel I)))))
  refine cs_blo hs (br_t rfl ?_)
  rcases cs_ix 16 (by decide) v3 with ⟨t, ht, rfl⟩ | n3
  rotate_left
  · refine cs_bln n3 (br_f (by decide) ?_)
    unfold wpY_fill
    exact cs_ipo hP (br_f (by decide) (cs_ilo hs (br_f (by decide) (cs_iln n3 (br_t rfl (And.intro rfl (cs_rel I)))))))
  refine cs_blo ht (br_t rfl ?_)
  rcases cs_ix 256 (by decide) v4 with ⟨w, hw, rfl⟩ | n4
  rotate_left
  · refine cs_bbn n4 (br_f (by decide) ?_)
    unfold wpY_fill
    exact cs_ipo hP (br_f (by decide) (cs_ilo hs (br_f (by decide) (cs_ilo ht (br_f (by decide) (cs_ibn n4 (br_t rfl (And.intro rfl (cs_rel I)))))))))
  refine cs_bbo hw (br_t rfl ?_)
  refine cs_bring hP I ?_
  intro c' l' ck1 pz1 kd1 pl1 fr1 fp1 fs1 po1 pp1 ps1 pt1 sl1 sp1 pk1 pn1 A A1
  obtain ⟨l3, -, hH⟩ := A.2.1.1 P hP A1
  by_cases st : s ≤ t
  · obtain ⟨fr', b', I', KX, KY⟩ := cs_fillL (ck := ck1) (pz := pz1) (fs := fs1) (pt := pt1) (pk := pk1) (pn := pn1) (he := he) hP A1 l3 ht st hw (t + 1 - s) s fr1 b (by omega) (by omega) A
    refine Exists.intro _ (KX _ ?_)
    unfold wpY_fill
    refine cs_ipo hP (br_f (by decide) (cs_ilo hs (br_f (by decide) (cs_ilo ht (br_f (by decide) (cs_ibo hw (br_f (by decide) (?_))))))))
    rw [Nat.sub_self] at KY
    exact Exists.intro _ (KY _ (And.intro rfl (cs_rel I')))
  · refine Exists.intro 1 (br_t (nI_lt (by omega) (by omega)) (br_f (nI_ge (by omega) (by omega)) ?_))
    unfold wpY_fill
    refine cs_ipo hP (br_f (by decide) (cs_ilo hs (br_f (by decide) (cs_ilo ht (br_f (by decide) (cs_ibo hw (br_f (by decide) (?_))))))))
    exact Exists.intro 1 (br_t (nI_lt (by omega) (by omega)) (And.intro rfl (cs_rel A)))
theorem cs_m_copy {k : Nat} (I : cs_Inv c l b kd pl fr fp po pp ps sl sp) (v1 v2 : Int32) : wpX_copy (fun r u' => wpY_copy (fun r' v' => r' = r ∧ i_Rel (k + 5) u' v') b v1 v2) (ck, pz, kd, pl, fr, fp, fs, po, pp, ps, pt, sl, sp, pk, pn, he) v1 v2 := by
  unfold wpX_copy
  rcases cs_ix 12 (by decide) v1 with ⟨P, hP, rfl⟩ | n1
  rotate_left
  · refine cs_bpn n1 (br_f (by decide) ?_)
    unfold wpY_copy
    exact cs_ipn n1 (br_t rfl (And.intro rfl (cs_rel I)))
  refine cs_bpo hP (br_t rfl ?_)
  rcases cs_ix 12 (by decide) v2 with ⟨Q, hQ, rfl⟩ | n2
  rotate_left
  · refine cs_bpn n2 (br_f (by decide) ?_)
    unfold wpY_copy
    exact cs_ipo hP (br_f (by decide) (cs_ipn n2 (br_t rfl (And.intro rfl (cs_rel I)))))
  refine cs_bpo hQ (br_t rfl ?_)
  refine cs_hold hQ I ?_
  intro c1 l1 ck1 pz1 kd1 pl1 fr1 fp1 fs1 po1 pp1 ps1 pt1 sl1 sp1 pk1 pn1 he1 A1 _ hh
  refine cs_bring hP A1 ?_
  intro c2 l2 ck2 pz2 kd2 pl2 fr2 fp2 fs2 po2 pp2 ps2 pt2 sl2 sp2 pk2 pn2 A A2
  obtain ⟨l3, -, hH⟩ := A.2.1.1 P hP A2
  obtain ⟨r, fr', b', I', KX, KY⟩ := cs_copyL (ck := ck2) (pz := pz2) (fs := fs2) (pt := pt2) (pk := pk2) (pn := pn2) (he := he1) hP hQ A2 l3 16 0 0 fr2 b (by omega) (fun j _ hj => (hh j hj).symm) A
  refine Exists.intro _ (KX _ ?_)
  unfold wpY_copy
  refine cs_ipo hP (br_f (by decide) (cs_ipo hQ (br_f (by decide) (?_))))
  exact Exists.intro _ (KY _ (And.intro rfl (cs_rel I')))
theorem cs_m_exchange {k : Nat} (I : cs_Inv c l b kd pl fr fp po pp ps sl sp) (v1 v2 : Int32) : wpX_exchange (fun r u' => wpY_exchange (fun r' v' => r' = r ∧ i_Rel (k + 5) u' v') b v1 v2) (ck, pz, kd, pl, fr, fp, fs, po, pp, ps, pt, sl, sp, pk, pn, he) v1 v2 := by
  unfold wpX_exchange
  rcases cs_ix 12 (by decide) v1 with ⟨P, hP, rfl⟩ | n1
  rotate_left
  · refine cs_bpn n1 (br_f (by decide) ?_)
    unfold wpY_exchange
    exact cs_ipn n1 (br_t rfl (And.intro rfl (cs_rel I)))
  refine cs_bpo hP (br_t rfl ?_)
  rcases cs_ix 12 (by decide) v2 with ⟨Q, hQ, rfl⟩ | n2
  rotate_left
  · refine cs_bpn n2 (br_f (by decide) ?_)
    unfold wpY_exchange
    exact cs_ipo hP (br_f (by decide) (cs_ipn n2 (br_t rfl (And.intro rfl (cs_rel I)))))
  refine cs_bpo hQ (br_t rfl ?_)
  have I' := I
  obtain ⟨h0, h1, h2, h3, h4, h5, h6⟩ := I'
  have vP : vp_in (nI P) 12 := vp_in_nI hP (by decide)
  have vQ : vp_in (nI Q) 12 := vp_in_nI hQ (by decide)
  have cP : (nI P).toNatClampNeg = P := nI_clamp (by omega)
  have cQ : (nI Q).toNatClampNeg = Q := nI_clamp (by omega)
  rw [cP, cQ]
  refine And.intro vP (nm_e (And.intro vP (nm_e (And.intro vQ (And.intro vP (nm_e (And.intro vQ (And.intro vP (nm_e (And.intro vQ (nm_e (And.intro vQ (nm_e ?_)))))))))))))
  have sw : ∀ (a : Nat → Int32) p, upd (upd a P (a Q)) Q (a P) p = a (cs_tr P Q p) := fun a p => by
    by_cases e : p = Q
    · rw [e, pk_us, cs_trQ]
    · rw [pk_un e]
      by_cases e2 : p = P
      · rw [e2, pk_us, cs_trP]
      · rw [pk_un e2, cs_trN e2 e]
  have kP : upd (upd kd P (kd Q)) Q (kd P) P = nI (c Q) := by rw [sw, cs_trP]; exact (h0 Q hQ).2.1
  have kQ : upd (upd kd P (kd Q)) Q (kd P) Q = nI (c P) := by rw [sw, cs_trQ]; exact (h0 P hP).2.1
  have lP : upd (upd pl P (pl Q)) Q (pl P) P = nI (l Q) := by rw [sw, cs_trP]; exact (h0 Q hQ).2.2
  have lQ : upd (upd pl P (pl Q)) Q (pl P) Q = nI (l P) := by rw [sw, cs_trQ]; exact (h0 P hP).2.2
  refine cs_claim hP kP (h0 Q hQ).1 lP (fun e => (h1.1 Q hQ e).1) (fun e => (h2.1 Q hQ e).1) (fun e => (h3.1 Q hQ e).1) ?_
  refine cs_claim hQ kQ (h0 P hP).1 lQ (fun e => (h1.1 P hP e).1) (fun e => (h2.1 P hP e).1) (fun e => (h3.1 P hP e).1) ?_
  unfold wpY_exchange
  refine cs_ipo hP (br_f (by decide) (cs_ipo hQ (br_f (by decide) (?_))))
  refine Exists.intro 17 (cs_exL hP hQ (fun b' hb => ?_) 16 0 b (by omega) (fun j => (if_neg (by omega)).symm))
  exact And.intro rfl (cs_rel (cs_InvX I hP hQ (fun p _ => sw kd p) (fun p _ => sw pl p) hb))
theorem cs_m_move {k : Nat} (I : cs_Inv c l b kd pl fr fp po pp ps sl sp) (v1 v2 v3 v4 : Int32) : wpX_move (fun r u' => wpY_move (fun r' v' => r' = r ∧ i_Rel (k + 5) u' v') b v1 v2 v3 v4) (ck, pz, kd, pl, fr, fp, fs, po, pp, ps, pt, sl, sp, pk, pn, he) v1 v2 v3 v4 := by
  unfold wpX_move
  rcases cs_ix 12 (by decide) v1 with ⟨P, hP, rfl⟩ | n1
  rotate_left
  · refine cs_bpn n1 (br_f (by decide) ?_)
    unfold wpY_move
    exact cs_ipn n1 (br_t rfl (And.intro rfl (cs_rel I)))
  refine cs_bpo hP (br_t rfl ?_)
  rcases cs_ix 16 (by decide) v2 with ⟨s, hs, rfl⟩ | n2
  rotate_left
  · refine cs_bln n2 (br_f (by decide) ?_)
    unfold wpY_move
    exact cs_ipo hP (br_f (by decide) (cs_iln n2 (br_t rfl (And.intro rfl (cs_rel I)))))
  refine cs_blo hs (br_t rfl ?_)
  rcases cs_ix 16 (by decide) v3 with ⟨t, ht, rfl⟩ | n3
  rotate_left
  · refine cs_bln n3 (br_f (by decide) ?_)
    unfold wpY_move
    exact cs_ipo hP (br_f (by decide) (cs_ilo hs (br_f (by decide) (cs_iln n3 (br_t rfl (And.intro rfl (cs_rel I)))))))
  refine cs_blo ht (br_t rfl ?_)
  by_cases q1 : v4 < 0
  · refine br_t q1 ?_
    unfold wpY_move
    refine cs_ipo hP (br_f (by decide) (cs_ilo hs (br_f (by decide) (cs_ilo ht (br_f (by decide) (?_))))))
    exact br_t q1 (And.intro rfl (cs_rel I))
  by_cases q2 : 16 < v4
  · refine br_f q1 (br_t q2 ?_)
    unfold wpY_move
    refine cs_ipo hP (br_f (by decide) (cs_ilo hs (br_f (by decide) (cs_ilo ht (br_f (by decide) (?_))))))
    exact br_f q1 (br_t q2 (And.intro rfl (cs_rel I)))
  by_cases q3 : 16 < nI s + v4
  · refine br_f q1 (br_f q2 (br_t q3 ?_))
    unfold wpY_move
    refine cs_ipo hP (br_f (by decide) (cs_ilo hs (br_f (by decide) (cs_ilo ht (br_f (by decide) (?_))))))
    exact br_f q1 (br_f q2 (br_t q3 (And.intro rfl (cs_rel I))))
  by_cases q4 : nI t + v4 ≤ 16
  rotate_left
  · refine br_f q1 (br_f q2 (br_f q3 (br_f q4 ?_)))
    unfold wpY_move
    refine cs_ipo hP (br_f (by decide) (cs_ilo hs (br_f (by decide) (cs_ilo ht (br_f (by decide) (?_))))))
    exact br_f q1 (br_f q2 (br_f q3 (br_f q4 (And.intro rfl (cs_rel I)))))
  obtain ⟨m, hm, e⟩ := nI_of q1
  subst e
  have m2 : ¬ nI 16 < nI m := q2
  rw [nI_ltI (by decide) hm] at m2
  have m3 : ¬ nI 16 < nI s + nI m := q3
  rw [nI_add, nI_ltI (by decide) (by omega)] at m3
  have m4 : nI t + nI m ≤ nI 16 := q4
  rw [nI_add, nI_leI (by omega) (by decide)] at m4
  refine br_f q1 (br_f q2 (br_f q3 (br_t q4 (cs_bring hP I ?_))))
  intro c' l' ck1 pz1 kd1 pl1 fr1 fp1 fs1 po1 pp1 ps1 pt1 sl1 sp1 pk1 pn1 A A1
  obtain ⟨l3, -, hH⟩ := A.2.1.1 P hP A1
  obtain ⟨fr', b', I', KX, KY⟩ := cs_moveL (ck := ck1) (pz := pz1) (fs := fs1) (pt := pt1) (pk := pk1) (pn := pn1) (he := he) (s := s) (t := t) (m := m) hP A1 l3 (by omega) (by omega) m 0 fr1 b (by omega) A
  refine Exists.intro _ (KX _ ?_)
  unfold wpY_move
  refine cs_ipo hP (br_f (by decide) (cs_ilo hs (br_f (by decide) (cs_ilo ht (br_f (by decide) (?_))))))
  exact br_f q1 (br_f q2 (br_f q3 (br_t q4 (Exists.intro _ (KY _ (And.intro rfl (cs_rel I')))))))
theorem cs_m_mix {k : Nat} (I : cs_Inv c l b kd pl fr fp po pp ps sl sp) (v1 v2 : Int32) : wpX_mix (fun r u' => wpY_mix (fun r' v' => r' = r ∧ i_Rel (k + 5) u' v') b v1 v2) (ck, pz, kd, pl, fr, fp, fs, po, pp, ps, pt, sl, sp, pk, pn, he) v1 v2 := by
  unfold wpX_mix
  rcases cs_ix 12 (by decide) v1 with ⟨P, hP, rfl⟩ | n1
  rotate_left
  · refine cs_bpn n1 (br_f (by decide) ?_)
    unfold wpY_mix
    exact cs_ipn n1 (br_t rfl (And.intro rfl (cs_rel I)))
  refine cs_bpo hP (br_t rfl ?_)
  rcases cs_ix 12 (by decide) v2 with ⟨Q, hQ, rfl⟩ | n2
  rotate_left
  · refine cs_bpn n2 (br_f (by decide) ?_)
    unfold wpY_mix
    exact cs_ipo hP (br_f (by decide) (cs_ipn n2 (br_t rfl (And.intro rfl (cs_rel I)))))
  refine cs_bpo hQ (br_t rfl ?_)
  refine cs_hold hQ I ?_
  intro c1 l1 ck1 pz1 kd1 pl1 fr1 fp1 fs1 po1 pp1 ps1 pt1 sl1 sp1 pk1 pn1 he1 A1 _ hh
  refine cs_bring hP A1 ?_
  intro c2 l2 ck2 pz2 kd2 pl2 fr2 fp2 fs2 po2 pp2 ps2 pt2 sl2 sp2 pk2 pn2 A A2
  obtain ⟨l3, -, hH⟩ := A.2.1.1 P hP A2
  obtain ⟨fr', b', I', KX, KY⟩ := cs_mixL (ck := ck2) (pz := pz2) (fs := fs2) (pt := pt2) (pk := pk2) (pn := pn2) (he := he1) hP hQ A2 l3 16 0 fr2 b (by omega) (fun j _ hj => (hh j hj).symm) A
  refine Exists.intro _ (KX _ ?_)
  unfold wpY_mix
  refine cs_ipo hP (br_f (by decide) (cs_ipo hQ (br_f (by decide) (?_))))
  exact Exists.intro _ (KY _ (And.intro rfl (cs_rel I')))
theorem cs_m_drop {k : Nat} (I : cs_Inv c l b kd pl fr fp po pp ps sl sp) (v1 : Int32) : wpX_drop (fun r u' => wpY_drop (fun r' v' => r' = r ∧ i_Rel (k + 5) u' v') b v1) (ck, pz, kd, pl, fr, fp, fs, po, pp, ps, pt, sl, sp, pk, pn, he) v1 := by
  unfold wpX_drop
  rcases cs_ix 12 (by decide) v1 with ⟨P, hP, rfl⟩ | n1
  rotate_left
  · refine cs_bpn n1 (br_f (by decide) ?_)
    unfold wpY_drop
    exact cs_ipn n1 (br_t rfl (And.intro rfl (cs_rel I)))
  refine cs_bpo hP (br_t rfl ?_)
  refine cs_relI hP I ?_
  unfold wpY_drop
  refine cs_ipo hP (br_f (by decide) (?_))
  refine Exists.intro 17 (cs_dropL hP ?_ 16 0 b (by omega) (fun j => (if_neg (by omega)).symm))
  exact And.intro rfl (cs_rel (cs_InvR I hP))
theorem cs_m_sum {k : Nat} (I : cs_Inv c l b kd pl fr fp po pp ps sl sp) (v1 : Int32) : wpX_sum (fun r u' => wpY_sum (fun r' => r' = r ∧ i_Rel (k + 5) u' b) b v1) (ck, pz, kd, pl, fr, fp, fs, po, pp, ps, pt, sl, sp, pk, pn, he) v1 := by
  unfold wpX_sum
  rcases cs_ix 12 (by decide) v1 with ⟨P, hP, rfl⟩ | n1
  rotate_left
  · refine cs_bpn n1 (br_f (by decide) ?_)
    unfold wpY_sum
    exact cs_ipn n1 (br_t rfl (And.intro rfl (cs_rel I)))
  refine cs_bpo hP (br_t rfl ?_)
  refine cs_bring hP I ?_
  intro c' l' ck1 pz1 kd1 pl1 fr1 fp1 fs1 po1 pp1 ps1 pt1 sl1 sp1 pk1 pn1 A A1
  obtain ⟨l3, -, hH⟩ := A.2.1.1 P hP A1
  obtain ⟨r, KX, KY⟩ := cs_sumX (ck := ck1) (pz := pz1) (kd := kd1) (pl := pl1) (fp := fp1) (fs := fs1) (po := po1) (pp := pp1) (ps := ps1) (pt := pt1) (sl := sl1) (sp := sp1) (pk := pk1) (pn := pn1) (he := he) hP l3 hH 16 0 0 (by omega)
  refine Exists.intro _ (KX _ ?_)
  unfold wpY_sum
  refine cs_ipo hP (br_f (by decide) (?_))
  exact Exists.intro _ (KY _ (And.intro rfl (cs_rel A)))
theorem cs_m_differ {k : Nat} (I : cs_Inv c l b kd pl fr fp po pp ps sl sp) (v1 v2 : Int32) : wpX_differ (fun r u' => wpY_differ (fun r' => r' = r ∧ i_Rel (k + 5) u' b) b v1 v2) (ck, pz, kd, pl, fr, fp, fs, po, pp, ps, pt, sl, sp, pk, pn, he) v1 v2 := by
  unfold wpX_differ
  rcases cs_ix 12 (by decide) v1 with ⟨P, hP, rfl⟩ | n1
  rotate_left
  · refine cs_bpn n1 (br_f (by decide) ?_)
    unfold wpY_differ
    exact cs_ipn n1 (br_t rfl (And.intro rfl (cs_rel I)))
  refine cs_bpo hP (br_t rfl ?_)
  rcases cs_ix 12 (by decide) v2 with ⟨Q, hQ, rfl⟩ | n2
  rotate_left
  · refine cs_bpn n2 (br_f (by decide) ?_)
    unfold wpY_differ
    exact cs_ipo hP (br_f (by decide) (cs_ipn n2 (br_t rfl (And.intro rfl (cs_rel I)))))
  refine cs_bpo hQ (br_t rfl ?_)
  refine cs_hold hP I ?_
  intro c1 l1 ck1 pz1 kd1 pl1 fr1 fp1 fs1 po1 pp1 ps1 pt1 sl1 sp1 pk1 pn1 he1 A1 _ hh
  refine cs_firstDiff hQ A1 hh ?_
  intro c2 l2 ck2 pz2 kd2 pl2 fr2 fp2 fs2 po2 pp2 ps2 pt2 sl2 sp2 pk2 pn2 A
  exact cs_ydiffer hP hQ (And.intro rfl (cs_rel A))
theorem cs_m_find {k : Nat} (I : cs_Inv c l b kd pl fr fp po pp ps sl sp) (v1 v2 v3 : Int32) : wpX_find (fun r u' => wpY_find (fun r' => r' = r ∧ i_Rel (k + 5) u' b) b v1 v2 v3) (ck, pz, kd, pl, fr, fp, fs, po, pp, ps, pt, sl, sp, pk, pn, he) v1 v2 v3 := by
  unfold wpX_find
  rcases cs_ix 12 (by decide) v1 with ⟨P, hP, rfl⟩ | n1
  rotate_left
  · refine cs_bpn n1 (br_f (by decide) ?_)
    unfold wpY_find
    exact cs_ipn n1 (br_t rfl (And.intro rfl (cs_rel I)))
  refine cs_bpo hP (br_t rfl ?_)
  rcases cs_ix 16 (by decide) v2 with ⟨i, hi, rfl⟩ | n2
  rotate_left
  · refine cs_bln n2 (br_f (by decide) ?_)
    unfold wpY_find
    exact cs_ipo hP (br_f (by decide) (cs_iln n2 (br_t rfl (And.intro rfl (cs_rel I)))))
  refine cs_blo hi (br_t rfl ?_)
  rcases cs_ix 256 (by decide) v3 with ⟨w, hw, rfl⟩ | n3
  rotate_left
  · refine cs_bbn n3 (br_f (by decide) ?_)
    unfold wpY_find
    exact cs_ipo hP (br_f (by decide) (cs_ilo hi (br_f (by decide) (cs_ibn n3 (br_t rfl (And.intro rfl (cs_rel I)))))))
  refine cs_bbo hw (br_t rfl ?_)
  refine cs_bring hP I ?_
  intro c' l' ck1 pz1 kd1 pl1 fr1 fp1 fs1 po1 pp1 ps1 pt1 sl1 sp1 pk1 pn1 A A1
  obtain ⟨l3, -, hH⟩ := A.2.1.1 P hP A1
  obtain ⟨r, KX, KY⟩ := cs_findL (ck := ck1) (pz := pz1) (kd := kd1) (pl := pl1) (fp := fp1) (fs := fs1) (po := po1) (pp := pp1) (ps := ps1) (pt := pt1) (sl := sl1) (sp := sp1) (pk := pk1) (pn := pn1) (he := he) (w := nI w) hP l3 hH (16 - i) i (by omega)
  refine Exists.intro _ (KX _ ?_)
  unfold wpY_find
  refine cs_ipo hP (br_f (by decide) (cs_ilo hi (br_f (by decide) (cs_ibo hw (br_f (by decide) (?_))))))
  exact Exists.intro _ (KY _ (And.intro rfl (cs_rel A)))
theorem cs_m_twin {k : Nat} (I : cs_Inv c l b kd pl fr fp po pp ps sl sp) (v1 : Int32) : wpX_twin (fun r u' => wpY_twin (fun r' => r' = r ∧ i_Rel (k + 5) u' b) b v1) (ck, pz, kd, pl, fr, fp, fs, po, pp, ps, pt, sl, sp, pk, pn, he) v1 := by
  unfold wpX_twin
  rcases cs_ix 12 (by decide) v1 with ⟨P, hP, rfl⟩ | n1
  rotate_left
  · refine cs_bpn n1 (br_f (by decide) ?_)
    unfold wpY_twin
    exact cs_ipn n1 (br_t rfl (And.intro rfl (cs_rel I)))
  refine cs_bpo hP (br_t rfl ?_)
  refine cs_hold hP I ?_
  intro c1 l1 ck1 pz1 kd1 pl1 fr1 fp1 fs1 po1 pp1 ps1 pt1 sl1 sp1 pk1 pn1 he1 A1 _ hh
  obtain ⟨r, KY, KX⟩ := cs_twinL (b := b) hP 12 0 (by omega)
  refine Exists.intro 13 (KX _ c1 l1 ck1 pz1 kd1 pl1 fr1 fp1 fs1 po1 pp1 ps1 pt1 sl1 sp1 pk1 pn1 he1 A1 hh ?_)
  intro c2 l2 ck2 pz2 kd2 pl2 fr2 fp2 fs2 po2 pp2 ps2 pt2 sl2 sp2 pk2 pn2 he2 A
  unfold wpY_twin
  refine cs_ipo hP (br_f (by decide) (?_))
  exact Exists.intro 13 (KY _ (And.intro rfl (cs_rel A)))
theorem cs_m_away {k : Nat} (I : cs_Inv c l b kd pl fr fp po pp ps sl sp) (v1 : Int32) : wpX_away (fun r u' => wpY_away (fun r' => r' = r ∧ i_Rel (k + 5) u' b) b v1) (ck, pz, kd, pl, fr, fp, fs, po, pp, ps, pt, sl, sp, pk, pn, he) v1 := by
  unfold wpX_away
  rcases cs_ix 12 (by decide) v1 with ⟨P, hP, rfl⟩ | n1
  rotate_left
  · refine cs_bpn n1 (br_f (by decide) ?_)
    unfold wpY_away
    exact cs_ipn n1 (br_t rfl (And.intro rfl (cs_rel I)))
  refine cs_bpo hP (br_t rfl ?_)
  have hk := I.1 P hP
  have cP : (nI P).toNatClampNeg = P := nI_clamp (by omega)
  refine And.intro (vp_in_nI hP (by decide)) ?_
  rw [cP, hk.2.1, hk.2.2]
  refine pk_eq (c P) 1 (fun e => And.intro (vp_in_nI hP (by decide)) ?_) (fun e => ?_)
  · obtain ⟨l3, hf, -⟩ := I.2.1.1 P hP e
    refine cs_evict l3 I (by rw [hf]; exact cs_nm1 (by omega)) ?_
    intro c' l' ck1 pz1 kd1 pl1 fp1 po1 pp1 ps1 pt1 sl1 sp1 pk1 pn1 A _ _
    unfold wpY_away
    refine cs_ipo hP (br_f (by decide) (?_))
    exact And.intro rfl (cs_rel A)
  · unfold wpY_away
    refine cs_ipo hP (br_f (by decide) (?_))
    exact And.intro rfl (cs_rel I)
end
theorem i_up {k : Nat} {u : SX} {v : SY} (h : i_Rel k u v) : i_Rel (k + 5) u v := h
theorem i_vc0 : wpX_init (fun u => wpY_init (fun v => i_Rel 0 u v)) := by
  have h := cs_i116 (post := fun u => wpY_init (fun v => i_Rel 0 u v)) (ck := 0) (pz := 0) (kd := fun _ => 0) (pl := fun _ => 0) (fr := fun _ => 0) (fp := fun _ => 0) (fs := fun _ => 0) (po := fun _ => 0) (pp := fun _ => 0) (ps := fun _ => 0) (pt := fun _ => 0) (sl := fun _ => 0) (sp := fun _ => 0) (pk := fun _ => 0) (pn := fun _ => 0) (he := fun _ => 0) (by
    unfold wpY_init
    exact cs_rel (cs_Inv0 (fun j hj => cs_cpI0 hj) (fun j hj => cs_cpI0 hj) (fun j hj => cs_cpI0 hj))) 3 0 (by omega)
  rw [cs_cp0] at h
  exact Exists.intro 4 h
theorem i_vc_write {k : Nat} {u : SX} {v : SY} (I : i_Rel k u v) (hk : k + 5 ≤ 2560) (v1 : Int32) (v2 : Int32) (v3 : Int32) : wpX_write (fun r u' => wpY_write (fun r' v' => r' = r ∧ i_Rel (k + 5) u' v') v v1 v2 v3) u v1 v2 v3 := by
  obtain ⟨ck, pz, kd, pl, fr, fp, fs, po, pp, ps, pt, sl, sp, pk, pn, he⟩ := u
  obtain ⟨c, l, I⟩ := I
  exact cs_m_write I v1 v2 v3
theorem i_vc_read {k : Nat} {u : SX} {v : SY} (I : i_Rel k u v) (hk : k + 5 ≤ 2560) (v1 : Int32) (v2 : Int32) : wpX_read (fun r u' => wpY_read (fun r' => r' = r ∧ i_Rel (k + 5) u' v) v v1 v2) u v1 v2 := by
  obtain ⟨ck, pz, kd, pl, fr, fp, fs, po, pp, ps, pt, sl, sp, pk, pn, he⟩ := u
  obtain ⟨c, l, I⟩ := I
  exact cs_m_read I v1 v2
theorem i_vc_fill {k : Nat} {u : SX} {v : SY} (I : i_Rel k u v) (hk : k + 5 ≤ 2560) (v1 : Int32) (v2 : Int32) (v3 : Int32) (v4 : Int32) : wpX_fill (fun r u' => wpY_fill (fun r' v' => r' = r ∧ i_Rel (k + 5) u' v') v v1 v2 v3 v4) u v1 v2 v3 v4 := by
  obtain ⟨ck, pz, kd, pl, fr, fp, fs, po, pp, ps, pt, sl, sp, pk, pn, he⟩ := u
  obtain ⟨c, l, I⟩ := I
  exact cs_m_fill I v1 v2 v3 v4
theorem i_vc_copy {k : Nat} {u : SX} {v : SY} (I : i_Rel k u v) (hk : k + 5 ≤ 2560) (v1 : Int32) (v2 : Int32) : wpX_copy (fun r u' => wpY_copy (fun r' v' => r' = r ∧ i_Rel (k + 5) u' v') v v1 v2) u v1 v2 := by
  obtain ⟨ck, pz, kd, pl, fr, fp, fs, po, pp, ps, pt, sl, sp, pk, pn, he⟩ := u
  obtain ⟨c, l, I⟩ := I
  exact cs_m_copy I v1 v2
theorem i_vc_exchange {k : Nat} {u : SX} {v : SY} (I : i_Rel k u v) (hk : k + 5 ≤ 2560) (v1 : Int32) (v2 : Int32) : wpX_exchange (fun r u' => wpY_exchange (fun r' v' => r' = r ∧ i_Rel (k + 5) u' v') v v1 v2) u v1 v2 := by
  obtain ⟨ck, pz, kd, pl, fr, fp, fs, po, pp, ps, pt, sl, sp, pk, pn, he⟩ := u
  obtain ⟨c, l, I⟩ := I
  exact cs_m_exchange I v1 v2
theorem i_vc_move {k : Nat} {u : SX} {v : SY} (I : i_Rel k u v) (hk : k + 5 ≤ 2560) (v1 : Int32) (v2 : Int32) (v3 : Int32) (v4 : Int32) : wpX_move (fun r u' => wpY_move (fun r' v' => r' = r ∧ i_Rel (k + 5) u' v') v v1 v2 v3 v4) u v1 v2 v3 v4 := by
  obtain ⟨ck, pz, kd, pl, fr, fp, fs, po, pp, ps, pt, sl, sp, pk, pn, he⟩ := u
  obtain ⟨c, l, I⟩ := I
  exact cs_m_move I v1 v2 v3 v4
theorem i_vc_mix {k : Nat} {u : SX} {v : SY} (I : i_Rel k u v) (hk : k + 5 ≤ 2560) (v1 : Int32) (v2 : Int32) : wpX_mix (fun r u' => wpY_mix (fun r' v' => r' = r ∧ i_Rel (k + 5) u' v') v v1 v2) u v1 v2 := by
  obtain ⟨ck, pz, kd, pl, fr, fp, fs, po, pp, ps, pt, sl, sp, pk, pn, he⟩ := u
  obtain ⟨c, l, I⟩ := I
  exact cs_m_mix I v1 v2
theorem i_vc_drop {k : Nat} {u : SX} {v : SY} (I : i_Rel k u v) (hk : k + 5 ≤ 2560) (v1 : Int32) : wpX_drop (fun r u' => wpY_drop (fun r' v' => r' = r ∧ i_Rel (k + 5) u' v') v v1) u v1 := by
  obtain ⟨ck, pz, kd, pl, fr, fp, fs, po, pp, ps, pt, sl, sp, pk, pn, he⟩ := u
  obtain ⟨c, l, I⟩ := I
  exact cs_m_drop I v1
theorem i_vc_sum {k : Nat} {u : SX} {v : SY} (I : i_Rel k u v) (hk : k + 5 ≤ 2560) (v1 : Int32) : wpX_sum (fun r u' => wpY_sum (fun r' => r' = r ∧ i_Rel (k + 5) u' v) v v1) u v1 := by
  obtain ⟨ck, pz, kd, pl, fr, fp, fs, po, pp, ps, pt, sl, sp, pk, pn, he⟩ := u
  obtain ⟨c, l, I⟩ := I
  exact cs_m_sum I v1
theorem i_vc_differ {k : Nat} {u : SX} {v : SY} (I : i_Rel k u v) (hk : k + 5 ≤ 2560) (v1 : Int32) (v2 : Int32) : wpX_differ (fun r u' => wpY_differ (fun r' => r' = r ∧ i_Rel (k + 5) u' v) v v1 v2) u v1 v2 := by
  obtain ⟨ck, pz, kd, pl, fr, fp, fs, po, pp, ps, pt, sl, sp, pk, pn, he⟩ := u
  obtain ⟨c, l, I⟩ := I
  exact cs_m_differ I v1 v2
theorem i_vc_find {k : Nat} {u : SX} {v : SY} (I : i_Rel k u v) (hk : k + 5 ≤ 2560) (v1 : Int32) (v2 : Int32) (v3 : Int32) : wpX_find (fun r u' => wpY_find (fun r' => r' = r ∧ i_Rel (k + 5) u' v) v v1 v2 v3) u v1 v2 v3 := by
  obtain ⟨ck, pz, kd, pl, fr, fp, fs, po, pp, ps, pt, sl, sp, pk, pn, he⟩ := u
  obtain ⟨c, l, I⟩ := I
  exact cs_m_find I v1 v2 v3
theorem i_vc_blank {k : Nat} {u : SX} {v : SY} (I : i_Rel k u v) (hk : k + 5 ≤ 2560) : wpX_blank (fun r => wpY_blank (fun r' => r' = r ∧ i_Rel (k + 5) u v) v) u := by
  obtain ⟨ck, pz, kd, pl, fr, fp, fs, po, pp, ps, pt, sl, sp, pk, pn, he⟩ := u
  obtain ⟨c, l, I⟩ := I
  obtain ⟨r, KX, KY⟩ := cs_blankL (ck := ck) (pz := pz) (fs := fs) (pt := pt) (pk := pk) (pn := pn) (he := he) I 12 0 0 (by omega)
  exact Exists.intro 13 (KX _ (Exists.intro 13 (KY _ (And.intro rfl (cs_rel I)))))
theorem i_vc_twin {k : Nat} {u : SX} {v : SY} (I : i_Rel k u v) (hk : k + 5 ≤ 2560) (v1 : Int32) : wpX_twin (fun r u' => wpY_twin (fun r' => r' = r ∧ i_Rel (k + 5) u' v) v v1) u v1 := by
  obtain ⟨ck, pz, kd, pl, fr, fp, fs, po, pp, ps, pt, sl, sp, pk, pn, he⟩ := u
  obtain ⟨c, l, I⟩ := I
  exact cs_m_twin I v1
theorem i_vc_away {k : Nat} {u : SX} {v : SY} (I : i_Rel k u v) (hk : k + 5 ≤ 2560) (v1 : Int32) : wpX_away (fun r u' => wpY_away (fun r' => r' = r ∧ i_Rel (k + 5) u' v) v v1) u v1 := by
  obtain ⟨ck, pz, kd, pl, fr, fp, fs, po, pp, ps, pt, sl, sp, pk, pn, he⟩ := u
  obtain ⟨c, l, I⟩ := I
  exact cs_m_away I v1
theorem i_vc_flush {k : Nat} {u : SX} {v : SY} (I : i_Rel k u v) (hk : k + 5 ≤ 2560) (v1 : Int32) : wpX_flush (fun u' => wpY_flush (fun v' => i_Rel (k + 5) u' v') v v1) u v1 := by
  obtain ⟨ck, pz, kd, pl, fr, fp, fs, po, pp, ps, pt, sl, sp, pk, pn, he⟩ := u
  obtain ⟨c, l, I⟩ := I
  refine Exists.intro 5 (cs_flushL (b := v) ?_ 4 0 c l ck pz kd pl fr fp fs po pp ps pt sl sp pk pn he (by omega) I)
  intro c' l' ck1 pz1 kd1 pl1 fr1 fp1 fs1 po1 pp1 ps1 pt1 sl1 sp1 pk1 pn1 he1 A
  show i_Rel (k + 5) (ck1, pz1, kd1, pl1, fr1, fp1, fs1, po1, pp1, ps1, pt1, sl1, sp1, pk1, pn1, he1) v
  exact cs_rel A
theorem i_vc_rest {k : Nat} {u : SX} {v : SY} (I : i_Rel k u v) (hk : k + 5 ≤ 2560) (v1 : Int32) : wpX_rest (fun u' => wpY_rest (fun v' => i_Rel (k + 5) u' v') v v1) u v1 := by
  obtain ⟨ck, pz, kd, pl, fr, fp, fs, po, pp, ps, pt, sl, sp, pk, pn, he⟩ := u
  obtain ⟨c, l, I⟩ := I
  refine Exists.intro 13 (cs_restL (b := v) ?_ 12 0 c l ck pz kd pl fr fp fs po pp ps pt sl sp pk pn he (by omega) I)
  intro c' l' ck1 pz1 kd1 pl1 fr1 fp1 fs1 po1 pp1 ps1 pt1 sl1 sp1 pk1 pn1 he1 A
  show i_Rel (k + 5) (ck1, pz1, kd1, pl1, fr1, fp1, fs1, po1, pp1, ps1, pt1, sl1, sp1, pk1, pn1, he1) v
  exact cs_rel A
end
