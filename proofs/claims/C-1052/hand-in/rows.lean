section
/-! rows of the kit's PURE-ROWS (a starting text) -/
theorem pk_us {f : Nat → Int32} {k : Nat} {x : Int32} : upd f k x k = x := if_pos rfl
theorem pk_un {f : Nat → Int32} {k j : Nat} {x : Int32} (h : j ≠ k) : upd f k x j = f j := if_neg h
theorem pk_sub {a b : Nat} (h : b ≤ a) : nI a - nI b = nI (a - b) := by
  obtain ⟨c, rfl⟩ : ∃ c, a = c + b := ⟨a - b, by omega⟩
  rw [← nI_add, Int32.add_sub_cancel, Nat.add_sub_cancel]
theorem pk_m1 (n : Nat) : nI (n + 1) + (-1) = nI n := by
  rw [← nI_1, Int32.add_assoc, show (1 : Int32) + (-1) = 0 from rfl, Int32.add_zero]
theorem pk_mul (a b : Nat) : nI a * nI b = nI (a * b) := (Int32.ofNat_mul a b).symm
theorem pk_div {a d : Nat} (ha : a < 2 ^ 31) (h0 : 0 < d) (hd : d < 2 ^ 31) : nI a / nI d = nI (a / d) := by
  apply Int32.toInt_inj.mp
  rw [lg_idiv_nonneg (by rw [nI_toInt ha]; omega) (by rw [nI_toInt hd]; omega), nI_toInt ha, nI_toInt hd, nI_toInt (Nat.lt_of_le_of_lt (Nat.div_le_self a d) ha)]
  first | rfl | exact (Int.natCast_ediv _ _).symm
theorem pk_rem {a d : Nat} (ha : a < 2 ^ 31) (h0 : 0 < d) (hd : d < 2 ^ 31) : nI a - nI a / nI d * nI d = nI (a % d) := by
  rw [pk_div ha h0 hd, pk_mul, pk_sub (Nat.div_mul_le_self a d)]
  exact congrArg nI (by have := Nat.div_add_mod' a d; omega)
theorem pk_sub_toInt {a b : Nat} (ha : a < 2 ^ 30) (hb : b < 2 ^ 30) : (nI a - nI b).toInt = (a : Int) - b := by
  rw [Int32.toInt_sub, nI_toInt (by omega), nI_toInt (by omega)]
  exact Int.bmod_eq_of_le (by omega) (by omega)
theorem pk_sneg {a b : Nat} (hb : b < 2 ^ 30) (h : a < b) : nI a - nI b < 0 := by
  rw [Int32.lt_iff_toInt_lt, pk_sub_toInt (by omega) hb, show (0 : Int32).toInt = 0 from by decide]
  omega
theorem pk_ix (x : Int32) {n : Nat} (hn : n < 2 ^ 31) : x < 0 ∨ nI n ≤ x ∨ ∃ j : Nat, j < n ∧ x = nI j := by
  by_cases h : x < 0
  · exact Or.inl h
  · obtain ⟨j, hj, rfl⟩ := nI_of h
    by_cases h2 : j < n
    · exact Or.inr (Or.inr ⟨j, h2, rfl⟩)
    · exact Or.inr (Or.inl (nI_le (by omega) hj))
theorem pk_le {x y : Int32} {A B : Prop} (a b : Nat) (f : a ≤ b → A) (g : b < a → B) (hx : x = nI a := by rfl) (hy : y = nI b := by rfl) (ha : a < 2 ^ 31 := by omega) (hb : b < 2 ^ 31 := by omega) : (x ≤ y → A) ∧ (¬ x ≤ y → B) := by
  subst hx hy
  rw [nI_leI ha hb]
  exact ⟨f, fun z => g (by omega)⟩
theorem pk_lt {x y : Int32} {A B : Prop} (a b : Nat) (f : a < b → A) (g : b ≤ a → B) (hx : x = nI a := by rfl) (hy : y = nI b := by rfl) (ha : a < 2 ^ 31 := by omega) (hb : b < 2 ^ 31 := by omega) : (x < y → A) ∧ (¬ x < y → B) := by
  subst hx hy
  rw [nI_ltI ha hb]
  exact ⟨f, fun z => g (by omega)⟩
theorem pk_eq {x y : Int32} {A B : Prop} (a b : Nat) (f : a = b → A) (g : a ≠ b → B) (hx : x = nI a := by rfl) (hy : y = nI b := by rfl) (ha : a < 2 ^ 31 := by omega) (hb : b < 2 ^ 31 := by omega) : (x = y → A) ∧ (¬ x = y → B) := by
  subst hx hy
  rw [nI_eq ha hb]
  exact ⟨f, g⟩
theorem pk_in {x : Int32} (n N : Nat) (h : n < N) (hx : x = nI n := by rfl) (hN : N < 2 ^ 31 := by omega) : vp_in x N := by
  subst hx
  exact vp_in_nI h hN
theorem pk_cl {x : Int32} (n : Nat) (hx : x = nI n := by rfl) (h : n < 2 ^ 31 := by omega) : x.toNatClampNeg = n := by
  subst hx
  exact nI_clamp h
theorem pk_tn {n : Nat} (h : n < 2 ^ 32) : (nI n).toBitVec.toNat = n := Nat.mod_eq_of_lt h
theorem pk_and (x : Int32) {m : Int32} (k : Nat) (hm : m.toBitVec.toNat = 2 ^ k - 1) : x &&& m = nI (x.toBitVec.toNat % 2 ^ k) := by
  apply Int32.toBitVec_inj.mp
  apply BitVec.eq_of_toNat_eq
  rw [Int32.toBitVec_and, BitVec.toNat_and, hm, Nat.and_two_pow_sub_one_eq_mod]
  show _ = (BitVec.ofNat 32 _).toNat
  rw [BitVec.toNat_ofNat]
  exact (Nat.mod_eq_of_lt (Nat.lt_of_le_of_lt (Nat.mod_le _ _) x.toBitVec.isLt)).symm
theorem pk_andN {n : Nat} (h : n < 2 ^ 32) {m : Int32} (k : Nat) (hm : m.toBitVec.toNat = 2 ^ k - 1) : nI n &&& m = nI (n % 2 ^ k) := by
  rw [pk_and _ k hm, pk_tn h]
theorem pk_andE (x : Int32) {m : Int32} (k : Nat) (hm : m.toBitVec.toNat = 2 ^ k - 1) : ∃ j : Nat, j < 2 ^ k ∧ x &&& m = nI j := ⟨_, Nat.mod_lt _ (Nat.two_pow_pos k), pk_and x k hm⟩
theorem pk_andIn (x : Int32) {m : Int32} (k : Nat) (hm : m.toBitVec.toNat = 2 ^ k - 1) (hk : k ≤ 30) : vp_in (x &&& m) (2 ^ k) := by
  obtain ⟨j, hj, e⟩ := pk_andE x k hm
  rw [e]
  exact vp_in_nI hj (Nat.lt_of_le_of_lt (Nat.pow_le_pow_right (by decide) hk) (by decide))
theorem pk_shr (a s : Int32) (k : Nat) (hs : (s.toBitVec.smod 32).toNat = k) : (a >>> s).toInt = a.toInt >>> k := by
  show (a.toBitVec.sshiftRight (s.toBitVec.smod 32).toNat).toInt = _
  rw [hs, BitVec.toInt_sshiftRight]
  rfl
theorem pk_shrN {n : Nat} (h : n < 2 ^ 31) (s : Int32) (k : Nat) (hs : (s.toBitVec.smod 32).toNat = k) : nI n >>> s = nI (n / 2 ^ k) := by
  apply Int32.toInt_inj.mp
  have h2 : n / 2 ^ k ≤ n := Nat.div_le_self _ _
  rw [pk_shr _ _ k hs, nI_toInt h, nI_toInt (by omega), Int.shiftRight_eq_div_pow]
  rfl
theorem pk_nb (z : Int32) : narrow .byte (.int z.toInt8.toInt32) = .int z.toInt8.toInt32 := congrArg Value.int (by simp)
theorem pk_fb (r : Int32) : fits .byte (.int r.toInt8.toInt32) = true := by
  have ⟨a, b⟩ := lg_i2b_range r
  have h1 : (-128 : Int32).toInt = -128 := by decide
  have h2 : (127 : Int32).toInt = 127 := by decide
  simp only [fits, Bool.and_eq_true, decide_eq_true_eq, Int32.le_iff_toInt_le, h1, h2]
  omega
theorem pk_vb (z : Int32) : vp_nar .byte z.toInt8.toInt32 = z.toInt8.toInt32 := by rw [vp_nar_byte]; simp
theorem pk_loop {σ : Type} (W : Nat → Nat → σ → Prop) (I : Nat → σ → Prop) (e i0 : Nat) (s : σ) (hi : i0 ≤ e) (h0 : I i0 s) (hx : ∀ n s, I e s → W (n + 1) e s)
    (hs : ∀ n i s, i < e → I i s → (∀ s', I (i + 1) s' → W n (i + 1) s') → W (n + 1) i s) : ∃ n, W n i0 s :=
  ⟨e + 1, loop_i W I e hx hs (e + 1) i0 s hi (by omega) h0⟩
theorem pk_loopD {σ : Type} (W : Nat → Nat → σ → Prop) (I : Nat → σ → Prop) (hx : ∀ n s, I 0 s → W (n + 1) 0 s)
    (hs : ∀ n i s, I (i + 1) s → (∀ s', I i s' → W n i s') → W (n + 1) (i + 1) s) : ∀ (e : Nat) (s : σ), I e s → W (e + 1) e s := by
  intro e
  induction e with
  | zero => exact fun s h => hx 0 s h
  | succ e ih => exact fun s h => hs (e + 1) e s h (fun s' h' => ih s' h')
end
section
/-! numbers as naturals, blocks of an array -/
theorem ed_lit (n : Nat) : (OfNat.ofNat n : Int32) = nI (OfNat.ofNat n) := rfl
theorem ed_in {n N : Nat} (h : n < N) (hN : N < 2 ^ 31) : vp_in (nI n) N = True := eq_true (vp_in_nI h hN)
theorem ed_m1 {a b : Nat} (h : b ≤ a) : nI a + -nI b = nI (a - b) := by
  rw [← Int32.sub_eq_add_neg, pk_sub h]
theorem ed_and7 {n : Nat} (h : n < 2 ^ 32) : nI n &&& nI 7 = nI (n % 8) := pk_andN h 3 (by decide)
theorem ed_and15 {n : Nat} (h : n < 2 ^ 32) : nI n &&& nI 15 = nI (n % 16) := pk_andN h 4 (by decide)
theorem ed_and63 {n : Nat} (h : n < 2 ^ 32) : nI n &&& nI 63 = nI (n % 64) := pk_andN h 6 (by decide)
theorem ed_shr1 {n : Nat} (h : n < 2 ^ 31) : nI n >>> ((1 : Int32) &&& 31) = nI (n / 2) := pk_shrN h _ 1 (by decide)
theorem ed_shr1' {n : Nat} (h : n < 2 ^ 31) : nI n >>> (nI 1 &&& nI 31) = nI (n / 2) := pk_shrN h _ 1 (by decide)
theorem ed_asub {a b c : Nat} (h : c ≤ b) : a + b - c = a + (b - c) := by omega
theorem ed_le {a b : Nat} (h : a ≤ b) (hb : b < 2 ^ 31) : (nI a ≤ nI b) = True := eq_true (nI_le h hb)
theorem ed_nle {a b : Nat} (h : b < a) (ha : a < 2 ^ 31) : (nI a ≤ nI b) = False := eq_false (nI_ge h ha)
theorem ed_lt {a b : Nat} (h : a < b) (hb : b < 2 ^ 31) : (nI a < nI b) = True := eq_true (nI_lt h hb)
theorem ed_nlt {a b : Nat} (h : b ≤ a) (ha : a < 2 ^ 31) : (nI a < nI b) = False := eq_false (nI_nlt h ha)
theorem ed_ne {a b : Nat} (h : a ≠ b) (ha : a < 2 ^ 31) (hb : b < 2 ^ 31) : (nI a = nI b) = False := eq_false (fun z => h ((nI_eq ha hb).mp z))
theorem ed_eq {a b : Nat} (h : a = b) : (nI a = nI b) = True := eq_true (congrArg nI h)
/-- a with the block b of n cells from B on -/
def ed_sp (a : Nat → Int32) (B n : Nat) (b : Nat → Int32) : Nat → Int32 := fun j => if B ≤ j ∧ j < B + n then b (j - B) else a j
theorem ed_sp_get {a b : Nat → Int32} {B n k : Nat} (h : k < n) : ed_sp a B n b (B + k) = b k := by
  show (if B ≤ B + k ∧ B + k < B + n then b (B + k - B) else a (B + k)) = b k
  rw [if_pos ⟨by omega, by omega⟩, Nat.add_sub_cancel_left]
theorem ed_sp_get0 {a b : Nat → Int32} {B n : Nat} (h : 0 < n) : ed_sp a B n b B = b 0 := ed_sp_get (k := 0) h
theorem ed_sp_out {a b : Nat → Int32} {B n j : Nat} (h : j < B ∨ B + n ≤ j) : ed_sp a B n b j = a j := if_neg (by omega)
theorem ed_sp_upd {a b : Nat → Int32} {B n k : Nat} {v : Int32} (h : k < n) : upd (ed_sp a B n b) (B + k) v = ed_sp a B n (upd b k v) := by
  funext j
  by_cases e : j = B + k
  · subst e
    rw [pk_us, ed_sp_get h, pk_us]
  · rw [pk_un e]
    by_cases c : B ≤ j ∧ j < B + n
    · show (if B ≤ j ∧ j < B + n then b (j - B) else a j) = (if B ≤ j ∧ j < B + n then upd b k v (j - B) else a j)
      rw [if_pos c, if_pos c, pk_un (by omega)]
    · show (if B ≤ j ∧ j < B + n then b (j - B) else a j) = (if B ≤ j ∧ j < B + n then upd b k v (j - B) else a j)
      rw [if_neg c, if_neg c]
theorem ed_sp_upd0 {a b : Nat → Int32} {B n : Nat} {v : Int32} (h : 0 < n) : upd (ed_sp a B n b) B v = ed_sp a B n (upd b 0 v) := ed_sp_upd (k := 0) h
theorem ed_sp_of {a b : Nat → Int32} {B n : Nat} (h : ∀ k, k < n → a (B + k) = b k) : ed_sp a B n b = a := by
  funext j
  by_cases c : B ≤ j ∧ j < B + n
  · show (if B ≤ j ∧ j < B + n then b (j - B) else a j) = a j
    rw [if_pos c, ← h (j - B) (by omega)]
    exact congrArg a (by omega)
  · exact if_neg c
theorem ed_qr {a b : Nat → Int32} {s k : Nat} (hs : s < 6) (hk : k < 64) : ed_sp a (64 * s) 64 b (nI (64 * s) + nI k).toNatClampNeg = b k := by
  rw [nI_add, nI_clamp (by omega), ed_sp_get hk]
end
section
/-! pure lists: members of a range, last ones, sessions, latest ones -/
/-- the events from a to b - 1 that M holds of -/
def ed_ms (M : Nat → Bool) (a b : Nat) : List Nat := (List.range' a (b - a)).filter M
theorem ed_rg_snoc {a b : Nat} (h : a ≤ b) : List.range' a (b + 1 - a) = List.range' a (b - a) ++ [b] := by
  rw [show b + 1 - a = (b - a) + 1 from by omega, List.range'_1_concat, show a + (b - a) = b from by omega]
theorem ed_rg_cons {a b : Nat} (h : a < b) : List.range' a (b - a) = a :: List.range' (a + 1) (b - (a + 1)) := by
  rw [show b - a = (b - (a + 1)) + 1 from by omega, List.range'_succ]
theorem ed_rg_nil {a b : Nat} (h : b ≤ a) : List.range' a (b - a) = [] := by
  rw [show b - a = 0 from by omega]; rfl
theorem ed_rg_mem {a b k : Nat} : k ∈ List.range' a (b - a) ↔ a ≤ k ∧ k < b := by
  rw [List.mem_range'_1]; omega
theorem ed_ms_nil {M : Nat → Bool} {a b : Nat} (h : b ≤ a) : ed_ms M a b = [] := by
  unfold ed_ms; rw [ed_rg_nil h]; rfl
theorem ed_ms_t {M : Nat → Bool} {a b : Nat} (h : a ≤ b) (m : M b = true) : ed_ms M a (b + 1) = ed_ms M a b ++ [b] := by
  unfold ed_ms; rw [ed_rg_snoc h, List.filter_append, List.filter_cons_of_pos m]; rfl
theorem ed_ms_f {M : Nat → Bool} {a b : Nat} (h : a ≤ b) (m : M b = false) : ed_ms M a (b + 1) = ed_ms M a b := by
  unfold ed_ms; rw [ed_rg_snoc h, List.filter_append, List.filter_cons_of_neg (by rw [m]; decide)]
  exact List.append_nil _
theorem ed_ms_ct {M : Nat → Bool} {a b : Nat} (h : a < b) (m : M a = true) : ed_ms M a b = a :: ed_ms M (a + 1) b := by
  unfold ed_ms; rw [ed_rg_cons h, List.filter_cons_of_pos m]
theorem ed_ms_cf {M : Nat → Bool} {a b : Nat} (h : a < b) (m : M a = false) : ed_ms M a b = ed_ms M (a + 1) b := by
  unfold ed_ms; rw [ed_rg_cons h, List.filter_cons_of_neg (by rw [m]; decide)]
theorem ed_ms_mem {M : Nat → Bool} {a b k : Nat} : k ∈ ed_ms M a b ↔ (a ≤ k ∧ k < b) ∧ M k = true := by
  unfold ed_ms; rw [List.mem_filter, ed_rg_mem]
theorem ed_ms_congr {M M' : Nat → Bool} {a b : Nat} (h : ∀ k, k < b → M k = M' k) : ed_ms M a b = ed_ms M' a b :=
  List.filter_congr (fun k hk => h k (ed_rg_mem.mp hk).2)
theorem ed_ms_pw {M : Nat → Bool} {a b : Nat} : (ed_ms M a b).Pairwise (· < ·) := (List.pairwise_lt_range' 1).filter _
theorem ed_ms_len {M : Nat → Bool} {a b : Nat} : (ed_ms M a b).length ≤ b - a := by
  have h := List.length_filter_le M (List.range' a (b - a))
  rw [List.length_range'] at h
  exact h
/-- the last n of a list -/
def ed_la (n : Nat) (l : List Nat) : List Nat := l.drop (l.length - n)
theorem ed_la_len {n : Nat} {l : List Nat} : (ed_la n l).length = min n l.length := by
  unfold ed_la; rw [List.length_drop]; omega
theorem ed_la_all {n : Nat} {l : List Nat} (h : l.length ≤ n) : ed_la n l = l := by
  unfold ed_la; rw [show l.length - n = 0 from by omega]; rfl
theorem ed_la_app {r : Nat} {l : List Nat} {e : Nat} : ed_la (r + 1) (l ++ [e]) = ed_la r l ++ [e] := by
  unfold ed_la
  rw [List.length_append, List.drop_append_of_le_length (by simp)]
  congr 2
  simp only [List.length_cons, List.length_nil]; omega
theorem ed_la_tail {n : Nat} {l : List Nat} (h : n + 1 ≤ l.length) : (ed_la (n + 1) l).tail = ed_la n l := by
  unfold ed_la
  rw [List.tail_drop]
  congr 1; omega
theorem ed_la_cons {n k : Nat} {l : List Nat} : ed_la n (k :: l) = if l.length < n then k :: ed_la n l else ed_la n l := by
  by_cases h : l.length < n
  · rw [if_pos h, ed_la_all (by rw [List.length_cons]; omega), ed_la_all (by omega)]
  · rw [if_neg h]
    unfold ed_la
    rw [List.length_cons, show l.length + 1 - n = (l.length - n) + 1 from by omega, List.drop_succ_cons]
/-- whether the gaps are all below N -/
def ed_ch (tm : Nat → Nat) (N : Nat) : List Nat → Bool
  | [] => true
  | [_] => true
  | k :: j :: r => decide (tm j - tm k < N) && ed_ch tm N (j :: r)
/-- the longest end of a list whose gaps are below N -/
def ed_se (tm : Nat → Nat) (N : Nat) : List Nat → List Nat
  | [] => []
  | k :: r => if ed_ch tm N (k :: r) = true then k :: r else ed_se tm N r
theorem ed_ch_tl {tm : Nat → Nat} {N k : Nat} {r : List Nat} (h : ed_ch tm N (k :: r) = true) : ed_ch tm N r = true := by
  cases r with
  | nil => rfl
  | cons j r => rw [ed_ch, Bool.and_eq_true] at h; exact h.2
theorem ed_se_ch {tm : Nat → Nat} {N : Nat} {l : List Nat} (h : ed_ch tm N l = true) : ed_se tm N l = l := by
  cases l with
  | nil => rfl
  | cons k r => rw [ed_se, if_pos h]
theorem ed_ch_app {tm : Nat → Nat} {N e : Nat} : ∀ {l : List Nat}, ed_ch tm N (l ++ [e]) = (ed_ch tm N l && (match l.getLast? with | some j => decide (tm e - tm j < N) | none => true))
  | [] => rfl
  | [k] => by
    show (decide (tm e - tm k < N) && true) = (true && decide (tm e - tm k < N))
    rw [Bool.and_comm]
  | k :: j :: r => by
    have ih := ed_ch_app (tm := tm) (N := N) (e := e) (l := j :: r)
    show (decide (tm j - tm k < N) && ed_ch tm N (j :: r ++ [e])) = _
    rw [ih, ed_ch, Bool.and_assoc, List.getLast?_cons_cons]
theorem ed_se_t1 {tm : Nat → Nat} {N e j : Nat} : ∀ {l : List Nat}, (ed_se tm N l).getLast? = some j → N ≤ tm e - tm j → ed_se tm N (l ++ [e]) = [e]
  | [], h, _ => by simp [ed_se] at h
  | k :: r, h, g => by
    by_cases c : ed_ch tm N (k :: r) = true
    · rw [ed_se_ch c] at h
      have d : ¬ ed_ch tm N (k :: (r ++ [e])) = true := by
        have := ed_ch_app (tm := tm) (N := N) (e := e) (l := k :: r)
        rw [h] at this
        rw [List.cons_append] at this
        rw [this, c]
        simp; omega
      rw [List.cons_append, ed_se, if_neg d]
      cases r with
      | nil => rfl
      | cons i r =>
        refine ed_se_t1 (j := j) ?_ g
        rw [ed_se_ch (ed_ch_tl c)]
        rw [List.getLast?_cons_cons] at h
        exact h
    · rw [ed_se, if_neg c] at h
      have d : ¬ ed_ch tm N (k :: (r ++ [e])) = true := by
        have := ed_ch_app (tm := tm) (N := N) (e := e) (l := k :: r)
        rw [List.cons_append] at this
        rw [this]
        simp [c]
      rw [List.cons_append, ed_se, if_neg d]
      exact ed_se_t1 h g
theorem ed_se_t2 {tm : Nat → Nat} {N e : Nat} : ∀ {l : List Nat}, (∀ j, (ed_se tm N l).getLast? = some j → tm e - tm j < N) → ed_se tm N (l ++ [e]) = ed_se tm N l ++ [e]
  | [], _ => rfl
  | k :: r, h => by
    by_cases c : ed_ch tm N (k :: r) = true
    · rw [ed_se_ch c] at h ⊢
      have d : ed_ch tm N (k :: (r ++ [e])) = true := by
        have := ed_ch_app (tm := tm) (N := N) (e := e) (l := k :: r)
        rw [List.cons_append] at this
        rw [this, c, Bool.true_and]
        cases hg : (k :: r).getLast? with
        | none => rfl
        | some j => exact decide_eq_true (h j hg)
      rw [List.cons_append, ed_se, if_pos d]
    · rw [ed_se, if_neg c] at h ⊢
      have d : ¬ ed_ch tm N (k :: (r ++ [e])) = true := by
        have := ed_ch_app (tm := tm) (N := N) (e := e) (l := k :: r)
        rw [List.cons_append] at this
        rw [this]
        simp [c]
      rw [List.cons_append, ed_se, if_neg d]
      exact ed_se_t2 h
theorem ed_se_suf {tm : Nat → Nat} {N : Nat} : ∀ {l : List Nat}, ed_se tm N l <:+ l
  | [] => List.suffix_refl _
  | k :: r => by
    rw [ed_se]
    by_cases c : ed_ch tm N (k :: r) = true
    · rw [if_pos c]; exact List.suffix_refl _
    · rw [if_neg c]; exact List.IsSuffix.trans ed_se_suf (List.suffix_cons k r)
theorem ed_ch_congr {tm tm' : Nat → Nat} {N : Nat} : ∀ {l : List Nat}, (∀ k ∈ l, tm k = tm' k) → ed_ch tm N l = ed_ch tm' N l
  | [], _ => rfl
  | [_], _ => rfl
  | k :: j :: r, h => by
    rw [ed_ch, ed_ch, h k (by simp), h j (by simp), ed_ch_congr (l := j :: r) (fun i hi => h i (List.mem_cons_of_mem k hi))]
theorem ed_se_congr {tm tm' : Nat → Nat} {N : Nat} : ∀ {l : List Nat}, (∀ k ∈ l, tm k = tm' k) → ed_se tm N l = ed_se tm' N l
  | [], _ => rfl
  | k :: r, h => by
    rw [ed_se, ed_se, ed_ch_congr h, ed_se_congr (l := r) (fun i hi => h i (List.mem_cons_of_mem k hi))]
/-- no later member up to b - 1 has the same a -/
def ed_lat (M : Nat → Bool) (av : Nat → Int32) (k b : Nat) : Bool := (List.range' (k + 1) (b - (k + 1))).all (fun j => !(M j && av j == av k))
theorem ed_lat_self {M : Nat → Bool} {av : Nat → Int32} {k : Nat} : ed_lat M av k (k + 1) = true := by
  unfold ed_lat; rw [ed_rg_nil (Nat.le_refl _)]; rfl
theorem ed_lat_succ {M : Nat → Bool} {av : Nat → Int32} {k b : Nat} (h : k < b) : ed_lat M av k (b + 1) = (ed_lat M av k b && !(M b && av b == av k)) := by
  unfold ed_lat
  rw [ed_rg_snoc (show k + 1 ≤ b from h), List.all_append]
  simp
theorem ed_lat_congr {M M' : Nat → Bool} {av av' : Nat → Int32} {k b : Nat} (hk : k < b) (h : ∀ j, j < b → M j = M' j) (g : ∀ j, j < b → av j = av' j) : ed_lat M av k b = ed_lat M' av' k b := by
  unfold ed_lat
  rw [Bool.eq_iff_iff, List.all_eq_true, List.all_eq_true]
  constructor
  · intro z j hj
    have hj2 := (ed_rg_mem.mp hj).2
    have := z j hj
    rw [h j hj2, g j hj2, g k hk] at this
    exact this
  · intro z j hj
    have hj2 := (ed_rg_mem.mp hj).2
    have := z j hj
    rw [← h j hj2, ← g j hj2, ← g k hk] at this
    exact this
end
section
/-! the windows' views: what the reference's loop picks, and the list that the component keeps -/
/-- the reference's pick at event e -/
def ed_vw (M : Nat → Bool) (tm : Nat → Nat) (av : Nat → Int32) (view N e k : Nat) : Bool :=
  M k && (if view = 0 then true else if view = 2 then decide (tm e - tm k < N) else if view = 1 ∨ view = 3 then decide ((ed_ms M (k + 1) (e + 1)).length < N)
    else if view = 5 then ed_ch tm N (ed_ms M k (e + 1)) else ed_lat M av k (e + 1))
/-- the members in view at event e -/
def ed_vl (M : Nat → Bool) (tm : Nat → Nat) (av : Nat → Int32) (view N F e : Nat) : List Nat := ed_ms (ed_vw M tm av view N e) F (e + 1)
/-- the component's list of members before event H at time T -/
def ed_wi (M : Nat → Bool) (tm : Nat → Nat) (av : Nat → Int32) (view N F H T : Nat) (L : List Nat) : Prop :=
  (view = 0 → L = ed_ms M F H) ∧ (view = 1 → L = ed_la N (ed_ms M F H)) ∧ (view = 2 → ∃ T0, T0 ≤ T ∧ L = (ed_ms M F H).filter (fun k => decide (T0 - tm k < N)))
  ∧ (view = 3 → L = ed_la ((ed_ms M F H).length % N) (ed_ms M F H)) ∧ (view = 4 → L = (ed_ms M F H).filter (fun k => ed_lat M av k H)) ∧ (view = 5 → L = ed_se tm N (ed_ms M F H))
theorem ed_vl_0 {M : Nat → Bool} {tm : Nat → Nat} {av : Nat → Int32} {N F e : Nat} : ed_vl M tm av 0 N F e = ed_ms M F (e + 1) := by
  unfold ed_vl ed_vw
  simp
theorem ed_vl_2 {M : Nat → Bool} {tm : Nat → Nat} {av : Nat → Int32} {N F e : Nat} : ed_vl M tm av 2 N F e = (ed_ms M F (e + 1)).filter (fun k => decide (tm e - tm k < N)) := by
  unfold ed_vl ed_vw ed_ms
  rw [List.filter_filter]
  congr 1
  funext k
  simp [Bool.and_comm]
theorem ed_vl_4 {M : Nat → Bool} {tm : Nat → Nat} {av : Nat → Int32} {N F e : Nat} : ed_vl M tm av 4 N F e = (ed_ms M F (e + 1)).filter (fun k => ed_lat M av k (e + 1)) := by
  unfold ed_vl ed_vw ed_ms
  rw [List.filter_filter]
  congr 1
  funext k
  simp [Bool.and_comm]
theorem ed_vl_13 {M : Nat → Bool} {tm : Nat → Nat} {av : Nat → Int32} {view N e : Nat} (hv : view = 1 ∨ view = 3) : ∀ d k, k + d = e + 1 → ed_ms (ed_vw M tm av view N e) k (e + 1) = ed_la N (ed_ms M k (e + 1)) := by
  intro d
  induction d with
  | zero => intro k hk; rw [ed_ms_nil (by omega), ed_ms_nil (by omega)]; unfold ed_la; simp
  | succ d ih =>
    intro k hk
    have ih := ih (k + 1) (by omega)
    have hw : ed_vw M tm av view N e k = (M k && decide ((ed_ms M (k + 1) (e + 1)).length < N)) := by
      unfold ed_vw
      rcases hv with rfl | rfl <;> simp
    cases m : M k with
    | false =>
      rw [ed_ms_cf (by omega) (by rw [hw, m]; rfl), ed_ms_cf (M := M) (by omega) m, ih]
    | true =>
      rw [ed_ms_ct (M := M) (by omega) m, ed_la_cons]
      by_cases c : (ed_ms M (k + 1) (e + 1)).length < N
      · rw [if_pos c, ed_ms_ct (by omega) (by rw [hw, m, decide_eq_true c]; rfl), ih]
      · rw [if_neg c, ed_ms_cf (by omega) (by rw [hw, m, decide_eq_false c]; rfl), ih]
theorem ed_vl_5 {M : Nat → Bool} {tm : Nat → Nat} {av : Nat → Int32} {N e : Nat} : ∀ d k, k + d = e + 1 → ed_ms (ed_vw M tm av 5 N e) k (e + 1) = ed_se tm N (ed_ms M k (e + 1)) := by
  intro d
  induction d with
  | zero => intro k hk; rw [ed_ms_nil (by omega), ed_ms_nil (by omega)]; rfl
  | succ d ih =>
    intro k hk
    have ih := ih (k + 1) (by omega)
    have hw : ed_vw M tm av 5 N e k = (M k && ed_ch tm N (ed_ms M k (e + 1))) := by
      unfold ed_vw
      simp
    cases m : M k with
    | false =>
      rw [ed_ms_cf (by omega) (by rw [hw, m]; rfl), ed_ms_cf (M := M) (by omega) m, ih]
    | true =>
      have mm := ed_ms_ct (M := M) (a := k) (b := e + 1) (by omega) m
      by_cases c : ed_ch tm N (ed_ms M k (e + 1)) = true
      · rw [ed_ms_ct (by omega) (by rw [hw, m, c]; rfl), ih]
        rw [mm] at c ⊢
        rw [ed_se_ch c, ed_se_ch (ed_ch_tl c)]
      · rw [ed_ms_cf (by omega) (by rw [hw, m]; simpa using c), ih]
        rw [mm] at c ⊢
        rw [ed_se.eq_2, if_neg c]
/-- an event that is no member -/
theorem ed_wi_f {M : Nat → Bool} {tm : Nat → Nat} {av : Nat → Int32} {view N F H T : Nat} {L : List Nat} (hF : F ≤ H) (m : M H = false) (h : ed_wi M tm av view N F H T L) : ed_wi M tm av view N F (H + 1) T L := by
  unfold ed_wi at h ⊢
  rw [ed_ms_f hF m]
  refine ⟨h.1, h.2.1, h.2.2.1, h.2.2.2.1, fun v => ?_, h.2.2.2.2.2⟩
  rw [h.2.2.2.2.1 v]
  refine List.filter_congr (fun k hk => ?_)
  rw [ed_lat_succ (ed_ms_mem.mp hk).1.2, m]
  simp
theorem ed_wi_T {M : Nat → Bool} {tm : Nat → Nat} {av : Nat → Int32} {view N F H T T' : Nat} {L : List Nat} (hT : T ≤ T') (h : ed_wi M tm av view N F H T L) : ed_wi M tm av view N F H T' L := by
  refine ⟨h.1, h.2.1, fun v => ?_, h.2.2.2.1, h.2.2.2.2.1, h.2.2.2.2.2⟩
  obtain ⟨T0, a, b⟩ := h.2.2.1 v
  exact ⟨T0, by omega, b⟩
theorem ed_wi_congr {M M' : Nat → Bool} {tm tm' : Nat → Nat} {av av' : Nat → Int32} {view N F H T : Nat} {L : List Nat} (hM : ∀ k, k < H → M k = M' k) (ht : ∀ k, k < H → tm k = tm' k) (ha : ∀ k, k < H → av k = av' k)
    (h : ed_wi M tm av view N F H T L) : ed_wi M' tm' av' view N F H T L := by
  unfold ed_wi at h ⊢
  rw [← ed_ms_congr hM]
  refine ⟨h.1, h.2.1, fun v => ?_, h.2.2.2.1, fun v => ?_, fun v => ?_⟩
  · obtain ⟨T0, a, b⟩ := h.2.2.1 v
    refine ⟨T0, a, b.trans (List.filter_congr (fun k hk => ?_))⟩
    rw [ht k (ed_ms_mem.mp hk).1.2]
  · refine (h.2.2.2.2.1 v).trans (List.filter_congr (fun k hk => ?_))
    exact ed_lat_congr (ed_ms_mem.mp hk).1.2 hM ha
  · exact (h.2.2.2.2.2 v).trans (ed_se_congr (fun k hk => ht k (ed_ms_mem.mp hk).1.2))
/-- the kept ones are events before H, in order -/
theorem ed_wi_sub {M : Nat → Bool} {tm : Nat → Nat} {av : Nat → Int32} {view N F H T : Nat} {L : List Nat} (hv : view ≤ 5) (h : ed_wi M tm av view N F H T L) : L.Sublist (ed_ms M F H) := by
  obtain ⟨h0, h1, h2, h3, h4, h5⟩ := h
  rcases (show view = 0 ∨ view = 1 ∨ view = 2 ∨ view = 3 ∨ view = 4 ∨ view = 5 by omega) with v | v | v | v | v | v
  · rw [h0 v]; exact List.Sublist.refl _
  · rw [h1 v]; exact List.drop_sublist _ _
  · obtain ⟨T0, _, e⟩ := h2 v; rw [e]; exact List.filter_sublist
  · rw [h3 v]; exact List.drop_sublist _ _
  · rw [h4 v]; exact List.filter_sublist
  · rw [h5 v]; exact ed_se_suf.sublist
end
section
/-! totals over a list of values, sorted -/
def ed_sm : List Int32 → Int32
  | [] => 0
  | x :: r => x + ed_sm r
theorem ed_sm_app {l : List Int32} {x : Int32} : ed_sm (l ++ [x]) = ed_sm l + x := by
  induction l with
  | nil => show x + 0 = 0 + x; rw [Int32.add_zero, Int32.zero_add]
  | cons y r ih => show y + ed_sm (r ++ [x]) = y + ed_sm r + x; rw [ih, Int32.add_assoc]
theorem ed_sm_perm {l l' : List Int32} (h : l.Perm l') : ed_sm l = ed_sm l' := by
  induction h with
  | nil => rfl
  | cons x _ ih => show x + _ = x + _; rw [ih]
  | swap x y l => show y + (x + ed_sm l) = x + (y + ed_sm l); rw [← Int32.add_assoc, ← Int32.add_assoc, Int32.add_comm y x]
  | trans _ _ a b => exact a.trans b
/-- how many of the first i differ from the one before -/
def ed_df (B : List Int32) : Nat → Nat
  | 0 => 0
  | i + 1 => ed_df B i + (if i = 0 ∨ B.getD i 0 ≠ B.getD (i - 1) 0 then 1 else 0)
theorem ed_df_le {B : List Int32} : ∀ i, ed_df B i ≤ i
  | 0 => Nat.le_refl 0
  | i + 1 => by
    have := ed_df_le (B := B) i
    show ed_df B i + (if i = 0 ∨ B.getD i 0 ≠ B.getD (i - 1) 0 then 1 else 0) ≤ i + 1
    split <;> omega
/-- the total of kind how over the sorted values B -/
def ed_tot (how : Nat) (B : List Int32) : Int32 :=
  if how = 0 then nI B.length else if how = 1 then ed_sm B else if how = 2 then B.getD 0 0 else if how = 3 then B.getD (B.length - 1) 0 else if how = 4 then nI (ed_df B B.length) else B.getD ((B.length - 1) / 2) 0
def ed_srt (V : List Int32) : List Int32 := V.mergeSort (fun a b => decide (a ≤ b))
theorem ed_srt_eq {B V : List Int32} (hp : B.Perm V) (hs : B.Pairwise (· ≤ ·)) : ed_srt V = B := by
  have p1 : (ed_srt V).Perm V := List.mergeSort_perm V _
  have s1 : (ed_srt V).Pairwise (fun a b => decide (a ≤ b) = true) := List.pairwise_mergeSort (fun a b c h1 h2 => by
      rw [decide_eq_true_eq] at h1 h2 ⊢
      exact Int32.le_trans h1 h2) (fun a b => by
      rcases Int32.le_total a b with h | h
      · rw [decide_eq_true h]; rfl
      · rw [decide_eq_true h, Bool.or_true]) V
  refine List.Perm.eq_of_pairwise (le := (· ≤ ·)) (fun a b _ _ h1 h2 => Int32.le_antisymm h1 h2) ?_ hs (p1.trans hp.symm)
  exact s1.imp (fun h => of_decide_eq_true h)
end
section
/-! patterns, pure -/
section
variable (ty av : Nat → Int32) (stop : Int32) (M1 Ml : Nat → Bool) (eq st2 once : Bool)
/-- no break strictly between i and j -/
def ep_nb (i j : Nat) : Bool := (List.range' (i + 1) (j - (i + 1))).all (fun m => !(ty m == stop))
def ep_fo (i j : Nat) : Bool := ep_nb ty stop i j && (!eq || av i == av j)
def ep_rw (f j : Nat) : Nat := (ed_ms (fun m => M1 m && ep_fo ty av stop eq f m && ep_nb ty stop m j) (f + 1) j).length
def ep_mt (f k : Nat) : Nat := if Ml k = true then (if st2 = true then (if ep_fo ty av stop eq f k = true then 1 else 0) else (ed_ms (fun m => M1 m && ep_fo ty av stop eq f m && ep_fo ty av stop eq m k) (f + 1) k).length) else 0
def ep_gn (f j : Nat) : Bool := once && (List.range' (f + 1) (j - (f + 1))).any (fun k => decide (0 < ep_mt ty av stop M1 Ml eq st2 f k))
def ep_op (f j : Nat) : Nat := if ep_gn ty av stop M1 Ml eq st2 once f j = true then 0 else if ep_nb ty stop f j = true then 1 else 0
def ep_ro (f j : Nat) : Nat := if ep_gn ty av stop M1 Ml eq st2 once f j = true then 0 else ep_rw ty av stop M1 eq f j
def ep_vl (f j : Nat) : Nat := if ep_gn ty av stop M1 Ml eq st2 once f j = true then 0 else ep_mt ty av stop M1 Ml eq st2 f j
end
section
variable {ty av : Nat → Int32} {stop : Int32} {M1 Ml : Nat → Bool} {eq st2 once : Bool} {f e i j : Nat}
theorem ep_nb_self : ep_nb ty stop i (i + 1) = true := by
  unfold ep_nb; rw [ed_rg_nil (Nat.le_refl _)]; rfl
theorem ep_nb_succ (h : i < j) : ep_nb ty stop i (j + 1) = (ep_nb ty stop i j && !(ty j == stop)) := by
  unfold ep_nb
  rw [ed_rg_snoc (show i + 1 ≤ j from h), List.all_append]
  simp
theorem ep_gn_self : ep_gn ty av stop M1 Ml eq st2 once f (f + 1) = false := by
  unfold ep_gn; rw [ed_rg_nil (Nat.le_refl _)]; simp
theorem ep_gn_succ (h : f < j) : ep_gn ty av stop M1 Ml eq st2 once f (j + 1) = (ep_gn ty av stop M1 Ml eq st2 once f j || (once && decide (0 < ep_mt ty av stop M1 Ml eq st2 f j))) := by
  unfold ep_gn
  rw [ed_rg_snoc (show f + 1 ≤ j from h), List.any_append]
  cases once <;> simp
theorem ep_rw_brk (h : f < e) (b : ty e = stop) : ep_rw ty av stop M1 eq f (e + 1) = if (M1 e && ep_fo ty av stop eq f e) = true then 1 else 0 := by
  unfold ep_rw
  have z : ed_ms (fun m => M1 m && ep_fo ty av stop eq f m && ep_nb ty stop m (e + 1)) (f + 1) e = [] := by
    unfold ed_ms
    rw [List.filter_eq_nil_iff]
    intro m hm
    have hm2 := (ed_rg_mem.mp hm).2
    rw [ep_nb_succ hm2, b]
    simp
  cases c : (M1 e && ep_fo ty av stop eq f e) with
  | true =>
    rw [ed_ms_t (by omega) (by rw [c, ep_nb_self]; rfl), z]; rfl
  | false =>
    rw [ed_ms_f (by omega) (by rw [c]; rfl), z]; rfl
theorem ep_rw_go (h : f < e) (b : ty e ≠ stop) : ep_rw ty av stop M1 eq f (e + 1) = ep_rw ty av stop M1 eq f e + if (M1 e && ep_fo ty av stop eq f e) = true then 1 else 0 := by
  unfold ep_rw
  have z : ed_ms (fun m => M1 m && ep_fo ty av stop eq f m && ep_nb ty stop m (e + 1)) (f + 1) e = ed_ms (fun m => M1 m && ep_fo ty av stop eq f m && ep_nb ty stop m e) (f + 1) e := by
    refine List.filter_congr (fun m hm => ?_)
    have hm2 := (ed_rg_mem.mp hm).2
    rw [ep_nb_succ hm2, beq_false_of_ne b]
    simp
  cases c : (M1 e && ep_fo ty av stop eq f e) with
  | true =>
    rw [ed_ms_t (by omega) (by rw [c, ep_nb_self]; rfl), z, List.length_append]; rfl
  | false =>
    rw [ed_ms_f (by omega) (by rw [c]; rfl), z]; rfl
/-- another a -/
theorem ep_mt_A (hA : (!eq || av f == av e) = false) : ep_mt ty av stop M1 Ml eq st2 f e = 0 := by
  unfold ep_mt
  have g : ep_fo ty av stop eq f e = false := by unfold ep_fo; rw [hA, Bool.and_false]
  have z : ed_ms (fun m => M1 m && ep_fo ty av stop eq f m && ep_fo ty av stop eq m e) (f + 1) e = [] := by
    unfold ed_ms
    rw [List.filter_eq_nil_iff]
    intro m _ hm
    unfold ep_fo at hm
    simp only [Bool.and_eq_true, Bool.or_eq_true, Bool.not_eq_true', beq_iff_eq] at hm
    simp only [Bool.or_eq_false_iff, Bool.not_eq_false', beq_eq_false_iff_ne] at hA
    rcases hm with ⟨⟨_, _, h1⟩, _, h2⟩
    rcases h1 with h1 | h1
    · rw [hA.1] at h1; cases h1
    · rcases h2 with h2 | h2
      · rw [hA.1] at h2; cases h2
      · exact hA.2 (h1.trans h2)
  rw [g, z]
  cases Ml e <;> cases st2 <;> rfl
theorem ep_gn_A (h : f < e) (hA : (!eq || av f == av e) = false) : ep_gn ty av stop M1 Ml eq st2 once f (e + 1) = ep_gn ty av stop M1 Ml eq st2 once f e := by
  rw [ep_gn_succ h, ep_mt_A hA]; simp
theorem ep_fo_A (hA : (!eq || av f == av e) = false) : ep_fo ty av stop eq f e = false := by unfold ep_fo; rw [hA, Bool.and_false]
theorem ep_fo_B (hB : (!eq || av f == av e) = true) : ep_fo ty av stop eq f e = ep_nb ty stop f e := by unfold ep_fo; rw [hB, Bool.and_true]
theorem ep_op_brk (h : f < e) (b : ty e = stop) : ep_op ty av stop M1 Ml eq st2 once f (e + 1) = 0 := by
  unfold ep_op
  rw [ep_nb_succ h, b]
  simp
theorem ep_op_A (h : f < e) (hA : (!eq || av f == av e) = false) (b : ty e ≠ stop) : ep_op ty av stop M1 Ml eq st2 once f (e + 1) = ep_op ty av stop M1 Ml eq st2 once f e := by
  unfold ep_op
  rw [ep_nb_succ h, ep_gn_A h hA, beq_false_of_ne b]
  simp
theorem ep_ro_Ab (h : f < e) (hA : (!eq || av f == av e) = false) (b : ty e = stop) : ep_ro ty av stop M1 Ml eq st2 once f (e + 1) = 0 := by
  unfold ep_ro
  rw [ep_rw_brk h b, ep_fo_A hA]
  simp
theorem ep_ro_A (h : f < e) (hA : (!eq || av f == av e) = false) (b : ty e ≠ stop) : ep_ro ty av stop M1 Ml eq st2 once f (e + 1) = ep_ro ty av stop M1 Ml eq st2 once f e := by
  unfold ep_ro
  rw [ep_rw_go h b, ep_fo_A hA, ep_gn_A h hA]
  simp
/-- the same a -/
theorem ep_mt_B (hB : (!eq || av f == av e) = true) : ep_mt ty av stop M1 Ml eq st2 f e = if Ml e = true then (if st2 = true then (if ep_nb ty stop f e = true then 1 else 0) else ep_rw ty av stop M1 eq f e) else 0 := by
  unfold ep_mt ep_rw
  rw [ep_fo_B hB]
  have z : ed_ms (fun m => M1 m && ep_fo ty av stop eq f m && ep_fo ty av stop eq m e) (f + 1) e = ed_ms (fun m => M1 m && ep_fo ty av stop eq f m && ep_nb ty stop m e) (f + 1) e := by
    refine List.filter_congr (fun m _ => ?_)
    cases c : (M1 m && ep_fo ty av stop eq f m) with
    | false => rfl
    | true =>
      have hB2 : (!eq || av m == av e) = true := by
        unfold ep_fo at c
        simp only [Bool.and_eq_true, Bool.or_eq_true, Bool.not_eq_true', beq_iff_eq] at c hB ⊢
        rcases hB with h | h
        · exact Or.inl h
        · rcases c.2.2 with h2 | h2
          · exact Or.inl h2
          · exact Or.inr (h2.symm.trans h)
      rw [ep_fo_B hB2]
  rw [z]
theorem ep_vl_B (hB : (!eq || av f == av e) = true) : ep_vl ty av stop M1 Ml eq st2 once f e = if Ml e = true then (if st2 = true then ep_op ty av stop M1 Ml eq st2 once f e else ep_ro ty av stop M1 Ml eq st2 once f e) else 0 := by
  unfold ep_vl ep_op ep_ro
  rw [ep_mt_B hB]
  cases ep_gn ty av stop M1 Ml eq st2 once f e <;> cases Ml e <;> cases st2 <;> rfl
theorem ep_vl_A (hA : (!eq || av f == av e) = false) : ep_vl ty av stop M1 Ml eq st2 once f e = 0 := by
  unfold ep_vl
  rw [ep_mt_A hA]
  cases ep_gn ty av stop M1 Ml eq st2 once f e <;> rfl
theorem ep_once (h : f < e) (o : once = true) (v : 0 < ep_vl ty av stop M1 Ml eq st2 once f e) : ep_op ty av stop M1 Ml eq st2 once f (e + 1) = 0 ∧ ep_ro ty av stop M1 Ml eq st2 once f (e + 1) = 0 := by
  have g : ep_gn ty av stop M1 Ml eq st2 once f (e + 1) = true := by
    rw [ep_gn_succ h]
    unfold ep_vl at v
    cases c : ep_gn ty av stop M1 Ml eq st2 once f e with
    | true => rfl
    | false =>
      rw [c, if_neg (by decide)] at v
      rw [o, decide_eq_true v]; rfl
  unfold ep_op ep_ro
  rw [g]
  exact ⟨rfl, rfl⟩
theorem ep_gn_B (h : f < e) (v : ¬ (0 < ep_vl ty av stop M1 Ml eq st2 once f e ∧ once = true)) : ep_gn ty av stop M1 Ml eq st2 once f (e + 1) = ep_gn ty av stop M1 Ml eq st2 once f e := by
  rw [ep_gn_succ h]
  unfold ep_vl at v
  cases c : ep_gn ty av stop M1 Ml eq st2 once f e with
  | true => rfl
  | false =>
    rw [c, if_neg (by decide)] at v
    cases o : once with
    | false => rfl
    | true =>
      rw [o] at v
      rw [Bool.false_or, Bool.true_and]
      exact decide_eq_false (fun z => v ⟨z, rfl⟩)
theorem ep_op_B (h : f < e) (b : ty e ≠ stop) (v : ¬ (0 < ep_vl ty av stop M1 Ml eq st2 once f e ∧ once = true)) : ep_op ty av stop M1 Ml eq st2 once f (e + 1) = ep_op ty av stop M1 Ml eq st2 once f e := by
  unfold ep_op
  rw [ep_gn_B h v, ep_nb_succ h, beq_false_of_ne b]
  simp
theorem ep_ro_Bb (h : f < e) (hB : (!eq || av f == av e) = true) (b : ty e = stop) (v : ¬ (0 < ep_vl ty av stop M1 Ml eq st2 once f e ∧ once = true)) : ep_ro ty av stop M1 Ml eq st2 once f (e + 1) = if M1 e = true then ep_op ty av stop M1 Ml eq st2 once f e else 0 := by
  unfold ep_ro ep_op
  rw [ep_gn_B h v, ep_rw_brk h b, ep_fo_B hB]
  cases ep_gn ty av stop M1 Ml eq st2 once f e <;> cases M1 e <;> cases ep_nb ty stop f e <;> rfl
theorem ep_ro_B (h : f < e) (hB : (!eq || av f == av e) = true) (b : ty e ≠ stop) (v : ¬ (0 < ep_vl ty av stop M1 Ml eq st2 once f e ∧ once = true)) : ep_ro ty av stop M1 Ml eq st2 once f (e + 1) = ep_ro ty av stop M1 Ml eq st2 once f e + if M1 e = true then ep_op ty av stop M1 Ml eq st2 once f e else 0 := by
  unfold ep_ro ep_op
  rw [ep_gn_B h v, ep_rw_go h b, ep_fo_B hB]
  cases ep_gn ty av stop M1 Ml eq st2 once f e <;> cases M1 e <;> cases ep_nb ty stop f e <;> rfl
theorem ep_new : ep_op ty av stop M1 Ml eq st2 once e (e + 1) = 1 ∧ ep_ro ty av stop M1 Ml eq st2 once e (e + 1) = 0 := by
  unfold ep_op ep_ro ep_rw
  rw [ep_gn_self, ep_nb_self, ed_ms_nil (Nat.le_refl _)]
  exact ⟨rfl, rfl⟩
theorem ep_op_le : ep_op ty av stop M1 Ml eq st2 once f e ≤ 1 := by
  unfold ep_op
  split
  · omega
  · split <;> omega
theorem ep_ro_le : ep_ro ty av stop M1 Ml eq st2 once f e ≤ e := by
  unfold ep_ro ep_rw
  split
  · omega
  · have := ed_ms_len (M := fun m => M1 m && ep_fo ty av stop eq f m && ep_nb ty stop m e) (a := f + 1) (b := e)
    omega
theorem ep_vl_le (hf : 0 < e) : ep_vl ty av stop M1 Ml eq st2 once f e ≤ e := by
  unfold ep_vl ep_mt
  split
  · omega
  · split
    · split
      · split <;> omega
      · have := ed_ms_len (M := fun m => M1 m && ep_fo ty av stop eq f m && ep_fo ty av stop eq m e) (a := f + 1) (b := e)
        omega
    · omega
end
/-! sums over the firsts -/
def ep_sum (P : List Nat) (g : Nat → Nat) : Nat := (P.map g).sum
theorem ep_sum_app {P : List Nat} {x : Nat} {g : Nat → Nat} : ep_sum (P ++ [x]) g = ep_sum P g + g x := by
  unfold ep_sum; simp
theorem ep_sum_le {P : List Nat} {g : Nat → Nat} {b : Nat} (h : ∀ x ∈ P, g x ≤ b) : ep_sum P g ≤ P.length * b := by
  induction P with
  | nil => exact Nat.zero_le _
  | cons x P ih =>
    have := ih (fun y hy => h y (List.mem_cons_of_mem x hy))
    have h2 := h x (List.mem_cons_self)
    unfold ep_sum at this ⊢
    rw [List.map_cons, List.sum_cons, List.length_cons, Nat.add_mul]
    omega
theorem ep_sum_filter {P : List Nat} {p : Nat → Bool} {g : Nat → Nat} : ep_sum (P.filter p) g = ep_sum P (fun x => if p x = true then g x else 0) := by
  induction P with
  | nil => rfl
  | cons x P ih =>
    unfold ep_sum at ih ⊢
    cases c : p x with
    | true => rw [List.filter_cons_of_pos c, List.map_cons, List.map_cons, List.sum_cons, List.sum_cons, ih, c]; rfl
    | false => rw [List.filter_cons_of_neg (by rw [c]; decide), List.map_cons, List.sum_cons, ih, c]; simp
end
section
/-! the windows' steps: the kept list and the view at a member e -/
section
variable {M : Nat → Bool} {tm : Nat → Nat} {av : Nat → Int32} {N F e T : Nat} {L : List Nat}
theorem ed_wi_0 {H : Nat} (h : L = ed_ms M F H) : ed_wi M tm av 0 N F H T L := ⟨fun _ => h, fun z => absurd z (by decide), fun z => absurd z (by decide), fun z => absurd z (by decide), fun z => absurd z (by decide), fun z => absurd z (by decide)⟩
theorem ed_wi_1 {H : Nat} (h : L = ed_la N (ed_ms M F H)) : ed_wi M tm av 1 N F H T L := ⟨fun z => absurd z (by decide), fun _ => h, fun z => absurd z (by decide), fun z => absurd z (by decide), fun z => absurd z (by decide), fun z => absurd z (by decide)⟩
theorem ed_wi_2 {H : Nat} (h : ∃ T0, T0 ≤ T ∧ L = (ed_ms M F H).filter (fun k => decide (T0 - tm k < N))) : ed_wi M tm av 2 N F H T L := ⟨fun z => absurd z (by decide), fun z => absurd z (by decide), fun _ => h, fun z => absurd z (by decide), fun z => absurd z (by decide), fun z => absurd z (by decide)⟩
theorem ed_wi_3 {H : Nat} (h : L = ed_la ((ed_ms M F H).length % N) (ed_ms M F H)) : ed_wi M tm av 3 N F H T L := ⟨fun z => absurd z (by decide), fun z => absurd z (by decide), fun z => absurd z (by decide), fun _ => h, fun z => absurd z (by decide), fun z => absurd z (by decide)⟩
theorem ed_wi_4 {H : Nat} (h : L = (ed_ms M F H).filter (fun k => ed_lat M av k H)) : ed_wi M tm av 4 N F H T L := ⟨fun z => absurd z (by decide), fun z => absurd z (by decide), fun z => absurd z (by decide), fun z => absurd z (by decide), fun _ => h, fun z => absurd z (by decide)⟩
theorem ed_wi_5 {H : Nat} (h : L = ed_se tm N (ed_ms M F H)) : ed_wi M tm av 5 N F H T L := ⟨fun z => absurd z (by decide), fun z => absurd z (by decide), fun z => absurd z (by decide), fun z => absurd z (by decide), fun z => absurd z (by decide), fun _ => h⟩
theorem ew_s0 (hF : F ≤ e) (m : M e = true) (h : ed_wi M tm av 0 N F e T L) : L ++ [e] = ed_vl M tm av 0 N F e ∧ ed_wi M tm av 0 N F (e + 1) T (L ++ [e]) := by
  have h := h.1 rfl
  subst h
  rw [ed_vl_0, ed_ms_t hF m]
  exact ⟨rfl, ed_wi_0 (ed_ms_t hF m).symm⟩
theorem ew_s1 (hF : F ≤ e) (m : M e = true) (hN : 1 ≤ N) (h : ed_wi M tm av 1 N F e T L) : (if L.length = N then L.tail else L) ++ [e] = ed_vl M tm av 1 N F e ∧ ed_wi M tm av 1 N F (e + 1) T ((if L.length = N then L.tail else L) ++ [e]) := by
  have h := h.2.1 rfl
  obtain ⟨n, rfl⟩ : ∃ n, N = n + 1 := ⟨N - 1, by omega⟩
  have k : (if L.length = n + 1 then L.tail else L) ++ [e] = ed_la (n + 1) (ed_ms M F (e + 1)) := by
    rw [ed_ms_t hF m, ed_la_app]
    have hl : L.length = min (n + 1) (ed_ms M F e).length := by rw [h, ed_la_len]
    by_cases c : L.length = n + 1
    · rw [if_pos c, h, ed_la_tail (by omega)]
    · rw [if_neg c, h, ed_la_all (by omega), ed_la_all (by omega)]
  refine ⟨?_, ed_wi_1 k⟩
  rw [k]
  exact (ed_vl_13 (Or.inl rfl) (e + 1 - F) F (by omega)).symm
theorem ew_s2 (hF : F ≤ e) (m : M e = true) (hN : 1 ≤ N) (ht : tm e = T) (h : ed_wi M tm av 2 N F e T L) : L.filter (fun k => decide (T - tm k < N)) ++ [e] = ed_vl M tm av 2 N F e ∧ ed_wi M tm av 2 N F (e + 1) T (L.filter (fun k => decide (T - tm k < N)) ++ [e]) := by
  obtain ⟨T0, hT, h⟩ := h.2.2.1 rfl
  have k : L.filter (fun k => decide (T - tm k < N)) ++ [e] = (ed_ms M F (e + 1)).filter (fun k => decide (T - tm k < N)) := by
    rw [ed_ms_t hF m, List.filter_append, h, List.filter_filter, List.filter_cons_of_pos (by simp; omega)]
    congr 1
    refine List.filter_congr (fun k _ => ?_)
    by_cases c : T - tm k < N
    · rw [decide_eq_true c, decide_eq_true (show T0 - tm k < N by omega)]; rfl
    · rw [decide_eq_false c]; rfl
  refine ⟨?_, ed_wi_2 ⟨T, Nat.le_refl _, k⟩⟩
  rw [k, ed_vl_2, ht]
theorem ew_s3 (hF : F ≤ e) (m : M e = true) (hN : 1 ≤ N) (h : ed_wi M tm av 3 N F e T L) : (L.length + 1 < N → (ed_ms M F (e + 1)).length % N ≠ 0 ∧ ed_wi M tm av 3 N F (e + 1) T (L ++ [e]))
    ∧ (¬ L.length + 1 < N → (ed_ms M F (e + 1)).length % N = 0 ∧ L ++ [e] = ed_vl M tm av 3 N F e ∧ ed_wi M tm av 3 N F (e + 1) T []) := by
  have h := h.2.2.2.1 rfl
  have hm : (ed_ms M F e).length % N < N := Nat.mod_lt _ (by omega)
  have hle : (ed_ms M F e).length % N ≤ (ed_ms M F e).length := Nat.mod_le _ _
  have hl : L.length = (ed_ms M F e).length % N := by rw [h, ed_la_len]; omega
  have hlen : (ed_ms M F (e + 1)).length = (ed_ms M F e).length + 1 := by rw [ed_ms_t hF m, List.length_append]; rfl
  have hd := Nat.div_add_mod (ed_ms M F e).length N
  have k : L ++ [e] = ed_la ((ed_ms M F e).length % N + 1) (ed_ms M F (e + 1)) := by
    rw [ed_ms_t hF m, ed_la_app, ← h]
  constructor
  · intro c
    have r : (ed_ms M F (e + 1)).length % N = (ed_ms M F e).length % N + 1 := by
      rw [hlen, ← hd, Nat.add_assoc, Nat.mul_add_mod, hd]
      exact Nat.mod_eq_of_lt (by omega)
    exact ⟨by omega, ed_wi_3 (by rw [r]; exact k)⟩
  · intro c
    have r : (ed_ms M F (e + 1)).length % N = 0 := by
      have q : (ed_ms M F e).length % N + 1 = N := by omega
      rw [hlen, ← hd, Nat.add_assoc, Nat.mul_add_mod, q]
      exact Nat.mod_self N
    refine ⟨r, ?_, ed_wi_3 ?_⟩
    · rw [k, show (ed_ms M F e).length % N + 1 = N by omega]
      exact (ed_vl_13 (Or.inr rfl) (e + 1 - F) F (by omega)).symm
    · rw [r]
      unfold ed_la
      rw [Nat.sub_zero, List.drop_length]
theorem ew_s4 (hF : F ≤ e) (m : M e = true) (h : ed_wi M tm av 4 N F e T L) : L.filter (fun k => !(av e == av k)) ++ [e] = ed_vl M tm av 4 N F e ∧ ed_wi M tm av 4 N F (e + 1) T (L.filter (fun k => !(av e == av k)) ++ [e]) := by
  have h := h.2.2.2.2.1 rfl
  have k : L.filter (fun k => !(av e == av k)) ++ [e] = (ed_ms M F (e + 1)).filter (fun k => ed_lat M av k (e + 1)) := by
    rw [ed_ms_t hF m, List.filter_append, h, List.filter_filter, List.filter_cons_of_pos (p := fun k => ed_lat M av k (e + 1)) (a := e) ed_lat_self]
    congr 1
    refine List.filter_congr (fun k hk => ?_)
    rw [ed_lat_succ (ed_ms_mem.mp hk).1.2, m, Bool.true_and, Bool.and_comm]
  refine ⟨?_, ed_wi_4 k⟩
  rw [k, ed_vl_4]
theorem ew_s5a (hF : F ≤ e) (m : M e = true) (h : ed_wi M tm av 5 N F e T L) (g : ∃ j, L.getLast? = some j ∧ N ≤ tm e - tm j) : [e] = ed_vl M tm av 5 N F e ∧ ed_wi M tm av 5 N F (e + 1) T [e] := by
  have h := h.2.2.2.2.2 rfl
  obtain ⟨j, g1, g2⟩ := g
  have k : [e] = ed_se tm N (ed_ms M F (e + 1)) := by
    rw [ed_ms_t hF m]
    exact (ed_se_t1 (j := j) (by rw [← h]; exact g1) g2).symm
  refine ⟨?_, ed_wi_5 k⟩
  rw [k]
  exact (ed_vl_5 (e + 1 - F) F (by omega)).symm
theorem ew_s5b (hF : F ≤ e) (m : M e = true) (h : ed_wi M tm av 5 N F e T L) (g : ∀ j, L.getLast? = some j → tm e - tm j < N) : L ++ [e] = ed_vl M tm av 5 N F e ∧ ed_wi M tm av 5 N F (e + 1) T (L ++ [e]) := by
  have h := h.2.2.2.2.2 rfl
  have k : L ++ [e] = ed_se tm N (ed_ms M F (e + 1)) := by
    rw [ed_ms_t hF m, ed_se_t2 (by rw [← h]; exact g), ← h]
  refine ⟨?_, ed_wi_5 k⟩
  rw [k]
  exact (ed_vl_5 (e + 1 - F) F (by omega)).symm
end
end
section
/-! conditions: a stack machine for both codes -/
def ec_cp (op x y : Int32) : Int32 :=
  if op = 5 then x + y else if op = 6 then x - y else if op = 7 then x * y else if op = 8 then (if x < y then 1 else 0) else if op = 9 then (if x = y then 1 else 0)
  else if op = 10 then (if x = 0 then 0 else if y = 0 then 0 else 1) else if op = 11 then (if x = 0 then (if y = 0 then 0 else 1) else 1) else (if y = 0 then 0 else x - x / y * y)
def ec_un (f : Int32 → Int32) : List Int32 → Option (List Int32)
  | x :: r => some (f x :: r)
  | [] => none
def ec_bi (f : Int32 → Int32 → Int32) : List Int32 → Option (List Int32)
  | y :: x :: r => some (f x y :: r)
  | [_] => none
  | [] => none
def ec_nt (x : Int32) : Int32 := if x = 0 then 1 else 0
/-- one term of code, over the stack with its top first; fe: type, a, b, time of the event -/
def ec_st (fe : Nat → Int32) (op v : Int32) (st : List Int32) : Option (List Int32) :=
  if op = 0 then some (v :: st) else if op = 1 then some (fe 1 :: st) else if op = 2 then some (fe 2 :: st) else if op = 3 then some (fe 0 :: st) else if op = 4 then some (fe 3 :: st)
  else if op = 12 then ec_un ec_nt st else if 20 < op then ec_un (fun x => ec_cp (op - 20) x v) st else ec_bi (ec_cp op) st
def ec_run (fe : Nat → Int32) (oc ac : Nat → Int32) : Nat → Option (List Int32)
  | 0 => some []
  | n + 1 => (ec_run fe oc ac n).bind (ec_st fe (oc n) (ac n))
/-- the stack lies in the array -/
def ec_stk (a : Nat → Int32) : List Int32 → Prop
  | [] => True
  | x :: r => a r.length = x ∧ ec_stk a r
theorem ec_stk_upd {a : Nat → Int32} {k : Nat} {v : Int32} : ∀ {st : List Int32}, ec_stk a st → st.length ≤ k → ec_stk (upd a k v) st
  | [], _, _ => trivial
  | x :: r, h, hk => by
    rw [List.length_cons] at hk
    exact ⟨(pk_un (by omega)).trans h.1, ec_stk_upd h.2 (by omega)⟩
theorem ec_stk_push {a : Nat → Int32} {v : Int32} {st : List Int32} (h : ec_stk a st) : ec_stk (upd a st.length v) (v :: st) := ⟨pk_us, ec_stk_upd h (Nat.le_refl _)⟩
theorem ec_st_len {fe : Nat → Int32} {op v : Int32} {st st' : List Int32} (h : ec_st fe op v st = some st') : st'.length ≤ st.length + 1 := by
  unfold ec_st at h
  have un : ∀ f, ec_un f st = some st' → st'.length ≤ st.length + 1 := by
    intro f hf
    cases st with
    | nil => cases hf
    | cons x r => cases hf; simp
  have bi : ∀ f, ec_bi f st = some st' → st'.length ≤ st.length + 1 := by
    intro f hf
    cases st with
    | nil => cases hf
    | cons x r =>
      cases r with
      | nil => cases hf
      | cons y r => cases hf; simp
  split at h
  · cases h; simp
  split at h
  · cases h; simp
  split at h
  · cases h; simp
  split at h
  · cases h; simp
  split at h
  · cases h; simp
  split at h
  · exact un _ h
  split at h
  · exact un _ h
  · exact bi _ h
theorem ec_run_len {fe oc ac : Nat → Int32} : ∀ {n : Nat} {st : List Int32}, ec_run fe oc ac n = some st → st.length ≤ n
  | 0, st, h => by cases h; exact Nat.le_refl 0
  | n + 1, st, h => by
    rw [ec_run] at h
    cases hn : ec_run fe oc ac n with
    | none => rw [hn] at h; cases h
    | some s0 =>
      rw [hn] at h
      have a := ec_run_len hn
      have b := ec_st_len (st := s0) h
      omega
theorem ec_run_congr {fe oc ac oc' ac' : Nat → Int32} : ∀ {n : Nat}, (∀ i, i < n → oc i = oc' i ∧ ac i = ac' i) → ec_run fe oc ac n = ec_run fe oc' ac' n
  | 0, _ => rfl
  | n + 1, h => by
    rw [ec_run, ec_run, ec_run_congr (fun i hi => h i (by omega)), (h n (by omega)).1, (h n (by omega)).2]
theorem ec_run_pre {fe oc ac : Nat → Int32} {N : Nat} {s : List Int32} : ∀ {d i : Nat}, i + d = N → ec_run fe oc ac N = some s → ∃ t, ec_run fe oc ac i = some t
  | 0, i, hi, h => ⟨s, by rw [show i = N from by omega]; exact h⟩
  | d + 1, i, hi, h => by
    obtain ⟨t, ht⟩ := ec_run_pre (d := d) (i := i + 1) (by omega) h
    rw [ec_run] at ht
    cases hn : ec_run fe oc ac i with
    | none => rw [hn] at ht; cases ht
    | some s0 => exact ⟨s0, rfl⟩
theorem ec_xcp {post : Int32 → Prop} {op x y : Int32} (h : post (ec_cp op x y)) : wpX_compute post op x y := by
  unfold wpX_compute
  unfold ec_cp at h
  by_cases e5 : op = 5
  · subst e5; simpa using h
  by_cases e6 : op = 6
  · subst e6; simpa using h
  by_cases e7 : op = 7
  · subst e7; simpa using h
  by_cases e8 : op = 8
  · subst e8
    by_cases c : x < y
    · have c' : ¬ y ≤ x := Int32.not_le.mpr c
      simpa [c, c'] using h
    · have c' : y ≤ x := Int32.not_lt.mp c
      simpa [c, c'] using h
  by_cases e9 : op = 9
  · subst e9
    by_cases c : x = y
    · simpa [c] using h
    · simpa [c] using h
  by_cases e10 : op = 10
  · subst e10
    by_cases c : x = 0
    · simpa [c] using h
    · by_cases d : y = 0
      · simpa [c, d] using h
      · simpa [c, d] using h
  by_cases e11 : op = 11
  · subst e11
    by_cases c : x = 0
    · by_cases d : y = 0
      · simpa [c, d] using h
      · simpa [c, d] using h
    · simpa [c] using h
  rw [if_neg e5, if_neg e6, if_neg e7, if_neg e8, if_neg e9, if_neg e10, if_neg e11] at h
  have t : (y = 0 → post 0) ∧ (¬ y = 0 → ¬ y = 0 ∧ post (x - x / y * y)) := by
    by_cases d : y = 0
    · rw [if_pos d] at h; exact br_t d h
    · rw [if_neg d] at h; exact br_f d ⟨d, h⟩
  refine br_c (fun _ => t) (fun _ => br_c (fun _ => t) (fun _ => ?_))
  exact br_f e5 (br_f e6 (br_f e7 (br_f e8 (br_f e9 (br_f e10 (br_f e11 trivial))))))
section
variable {h_terms h_listed h_kept h_waits h_begun h_has h_out : Int32} {b_term b_list b_q b_ev b_g b_keptQ b_keptEv b_keptG b_waiting b_stack b_met b_view b_sorted b_breaks : Nat → Int32}
theorem ec_ycp {post : Int32 → Prop} {op x y : Int32} (h : post (if op = 12 then ec_nt y else ec_cp op x y)) : wpY_result post (h_terms, h_listed, h_kept, h_waits, h_begun, h_has, h_out, b_term, b_list, b_q, b_ev, b_g, b_keptQ, b_keptEv, b_keptG, b_waiting, b_stack, b_met, b_view, b_sorted, b_breaks) op x y := by
  unfold wpY_result
  dsimp only
  by_cases e12 : op = 12
  · subst e12
    rw [if_pos rfl] at h
    unfold ec_nt at h
    by_cases c : y = 0
    · rw [if_pos c] at h
      simpa [c] using h
    · rw [if_neg c] at h
      simpa [c] using h
  rw [if_neg e12] at h
  unfold ec_cp at h
  by_cases e5 : op = 5
  · subst e5; simpa using h
  by_cases e6 : op = 6
  · subst e6; simpa using h
  by_cases e7 : op = 7
  · subst e7; simpa using h
  by_cases e8 : op = 8
  · subst e8
    by_cases c : x < y
    · have c' : ¬ y ≤ x := Int32.not_le.mpr c
      simpa [c, c'] using h
    · have c' : y ≤ x := Int32.not_lt.mp c
      simpa [c, c'] using h
  by_cases e9 : op = 9
  · subst e9
    by_cases c : x = y
    · simpa [c] using h
    · simpa [c] using h
  by_cases e10 : op = 10
  · subst e10
    by_cases c : x = 0
    · simpa [c] using h
    · by_cases d : y = 0
      · simpa [c, d] using h
      · simpa [c, d] using h
  by_cases e11 : op = 11
  · subst e11
    by_cases c : x = 0
    · by_cases d : y = 0
      · simpa [c, d] using h
      · simpa [c, d] using h
    · simpa [c] using h
  rw [if_neg e5, if_neg e6, if_neg e7, if_neg e8, if_neg e9, if_neg e10, if_neg e11] at h
  have t : (y = 0 → post 0) ∧ (¬ y = 0 → ¬ y = 0 ∧ post (x - x / y * y)) := by
    by_cases d : y = 0
    · rw [if_pos d] at h; exact br_t d h
    · rw [if_neg d] at h; exact br_f d ⟨d, h⟩
  refine br_c (fun _ => t) (fun _ => br_c (fun _ => t) (fun _ => ?_))
  exact br_f e5 (br_f e6 (br_f e7 (br_f e8 (br_f e9 (br_f e10 (br_f e11 (br_f e12 trivial)))))))
end
end
section
/-! the component's meets -/
theorem ec_st_0 {fe : Nat → Int32} {v : Int32} {st : List Int32} : ec_st fe (nI 0) v st = some (v :: st) := rfl
theorem ec_st_1 {fe : Nat → Int32} {v : Int32} {st : List Int32} : ec_st fe (nI 1) v st = some (fe 1 :: st) := rfl
theorem ec_st_2 {fe : Nat → Int32} {v : Int32} {st : List Int32} : ec_st fe (nI 2) v st = some (fe 2 :: st) := rfl
theorem ec_st_3 {fe : Nat → Int32} {v : Int32} {st : List Int32} : ec_st fe (nI 3) v st = some (fe 0 :: st) := rfl
theorem ec_st_4 {fe : Nat → Int32} {v : Int32} {st : List Int32} : ec_st fe (nI 4) v st = some (fe 3 :: st) := rfl
theorem ec_st_12 {fe : Nat → Int32} {v : Int32} {st : List Int32} : ec_st fe (nI 12) v st = ec_un ec_nt st := rfl
theorem ec_neL {a b : Nat} (h : a ≠ b) (ha : a < 2 ^ 31) (hb : b < 2 ^ 31) : ¬ nI a = nI b := fun z => h ((nI_eq ha hb).mp z)
theorem ec_st_u {fe : Nat → Int32} {v : Int32} {st : List Int32} {o : Nat} (h : 20 < o) (h2 : o ≤ 33) : ec_st fe (nI o) v st = ec_un (fun x => ec_cp (nI o - 20) x v) st :=
  (if_neg (ec_neL (b := 0) (by omega) (by omega) (by decide))).trans ((if_neg (ec_neL (b := 1) (by omega) (by omega) (by decide))).trans ((if_neg (ec_neL (b := 2) (by omega) (by omega) (by decide))).trans ((if_neg (ec_neL (b := 3) (by omega) (by omega) (by decide))).trans ((if_neg (ec_neL (b := 4) (by omega) (by omega) (by decide))).trans ((if_neg (ec_neL (b := 12) (by omega) (by omega) (by decide))).trans (if_pos (nI_lt (a := 20) h (by omega))))))))
theorem ec_st_b {fe : Nat → Int32} {v : Int32} {st : List Int32} {o : Nat} (h : 4 < o) (h2 : o ≤ 20) (h3 : o ≠ 12) : ec_st fe (nI o) v st = ec_bi (ec_cp (nI o)) st :=
  (if_neg (ec_neL (b := 0) (by omega) (by omega) (by decide))).trans ((if_neg (ec_neL (b := 1) (by omega) (by omega) (by decide))).trans ((if_neg (ec_neL (b := 2) (by omega) (by omega) (by decide))).trans ((if_neg (ec_neL (b := 3) (by omega) (by omega) (by decide))).trans ((if_neg (ec_neL (b := 4) (by omega) (by omega) (by decide))).trans ((if_neg (ec_neL (b := 12) (by omega) (by omega) (by decide))).trans (if_neg (nI_nlt (a := 20) h2 (by decide))))))))
section
variable {f_terms f_conditions f_happened f_waiting f_lost f_time f_all f_oldHappened f_oldLost f_oldTime f_oldAll f_kept : Int32} {a_termOp a_termValue a_askedCode a_code a_oldCode a_askedArg a_arg a_oldArg a_askedLength a_stack a_question a_oldQuestion a_list a_oldList a_event a_oldEvent : Nat → Int32} {fe : Nat → Int32} {s c e N : Nat} {v : Int32} {post : Int32 → SX → Prop}
theorem xm_loop (hs : s < 6) (hc : c < 3) (he : e < 64) (hN : N ≤ 12) (hfe : ∀ i, i < 4 → a_event (4 * e + i) = fe i)
    (hop : ∀ i, i < N → ∃ o, o ≤ 33 ∧ a_code (36 * s + 12 * c + i) = nI o)
    (hr : ec_run fe (fun i => a_code (36 * s + 12 * c + i)) (fun i => a_arg (36 * s + 12 * c + i)) N = some [v])
    (hp : ∀ stk, post (if v = 0 then 0 else 1) (f_terms, f_conditions, f_happened, f_waiting, f_lost, f_time, f_all, f_oldHappened, f_oldLost, f_oldTime, f_oldAll, f_kept, a_termOp, a_termValue, a_askedCode, a_code, a_oldCode, a_askedArg, a_arg, a_oldArg, a_askedLength, stk, a_question, a_oldQuestion, a_list, a_oldList, a_event, a_oldEvent)) :
    ∀ d i st stk, i + d = N → ec_run fe (fun i => a_code (36 * s + 12 * c + i)) (fun i => a_arg (36 * s + 12 * c + i)) i = some st → ec_stk stk st → ∀ n, d < n →
      wX_meets_37 post (nI e) (nI (36 * s + 12 * c + N)) f_terms f_conditions f_happened f_waiting f_lost f_time f_all f_oldHappened f_oldLost f_oldTime f_oldAll f_kept n (nI st.length) (nI (36 * s + 12 * c + i)) a_termOp a_termValue a_askedCode a_code a_oldCode a_askedArg a_arg a_oldArg a_askedLength stk a_question a_oldQuestion a_list a_oldList a_event a_oldEvent := by
  intro d
  induction d with
  | zero =>
    intro i st stk hi h1 h2 n hn
    obtain ⟨n, rfl⟩ : ∃ m, n = m + 1 := ⟨n - 1, by omega⟩
    have e1 : i = N := by omega
    subst e1
    rw [hr] at h1
    cases h1
    have h0 : stk 0 = v := h2.1
    have hp := hp stk
    by_cases z : v = 0
    · rw [if_pos z] at hp
      exact br_t (nI_le (Nat.le_refl _) (by omega)) (br_t (h0.trans z) hp)
    · rw [if_neg z] at hp
      exact br_t (nI_le (Nat.le_refl _) (by omega)) (br_f (fun q => z (h0.symm.trans q)) hp)
  | succ d ih =>
    intro i st stk hi h1 h2 n hn
    obtain ⟨n, rfl⟩ : ∃ m, n = m + 1 := ⟨n - 1, by omega⟩
    obtain ⟨o, ho, ho2⟩ := hop i (by omega)
    obtain ⟨t, ht⟩ := ec_run_pre (d := d) (i := i + 1) (by omega) hr
    have hl := ec_run_len h1
    have ih := ih (i + 1) t
    have ht2 := ht
    rw [ec_run, h1] at ht2
    have ht2 : ec_st fe (a_code (36 * s + 12 * c + i)) (a_arg (36 * s + 12 * c + i)) st = some t := ht2
    rw [ho2] at ht2
    have c0 : ¬ nI (36 * s + 12 * c + N) ≤ nI (36 * s + 12 * c + i) := nI_ge (by omega) (by omega)
    have hin : vp_in (nI (36 * s + 12 * c + i)) 216 := vp_in_nI (by omega) (by omega)
    have hcl : (nI (36 * s + 12 * c + i)).toNatClampNeg = 36 * s + 12 * c + i := nI_clamp (by omega)
    have hst : vp_in (nI st.length) 12 := vp_in_nI (by omega) (by omega)
    have hsc : (nI st.length).toNatClampNeg = st.length := nI_clamp (by omega)
    have hpush : ∀ w, t = w :: st → wX_meets_37 post (nI e) (nI (36 * s + 12 * c + N)) f_terms f_conditions f_happened f_waiting f_lost f_time f_all f_oldHappened f_oldLost f_oldTime f_oldAll f_kept n (nI (st.length + 1)) (nI (36 * s + 12 * c + i + 1)) a_termOp a_termValue a_askedCode a_code a_oldCode a_askedArg a_arg a_oldArg a_askedLength (upd stk st.length w) a_question a_oldQuestion a_list a_oldList a_event a_oldEvent := by
      intro w hw
      have := ih (upd stk st.length w) (by omega) ht (by rw [hw]; exact ec_stk_push h2) n (by omega)
      rw [hw] at this
      exact this
    have evi : ∀ j, j < 4 → vp_in (4 * nI e + nI j) 256 ∧ a_event (4 * nI e + nI j).toNatClampNeg = fe j := by
      intro j hj
      have q : (4 : Int32) * nI e + nI j = nI (4 * e + j) := by
        rw [← nI_add, ← pk_mul]; rfl
      rw [q, nI_clamp (by omega)]
      exact ⟨vp_in_nI (by omega) (by omega), hfe j hj⟩
    refine br_f c0 ⟨hin, nm_r (e' := nI o) (by rw [hcl, ho2]) ?_⟩
    by_cases o0 : o = 0
    · subst o0
      rw [ec_st_0] at ht2
      cases ht2
      exact br_t rfl (nm_r (nI_1 _) ⟨hin, hst, nm_r (by rw [hsc, hcl]) (nm_r (nI_1 _) (hpush _ rfl))⟩)
    refine br_f (ec_neL (b := 0) o0 (by omega) (by decide)) ?_
    by_cases o5 : o < 5
    · refine br_f (nI_ge (b := 5) o5 (by decide)) (nm_r (nI_1 _) ?_)
      rcases (show o = 1 ∨ o = 2 ∨ o = 3 ∨ o = 4 by omega) with rfl | rfl | rfl | rfl
      · rw [ec_st_1] at ht2
        cases ht2
        exact br_f (nI_ge (b := 3) (by decide) (by decide)) ⟨(evi 1 (by decide)).1, hst, nm_r (by rw [hsc, (evi 1 (by decide)).2]) (nm_r (nI_1 _) (hpush _ rfl))⟩
      · rw [ec_st_2] at ht2
        cases ht2
        exact br_f (nI_ge (b := 3) (by decide) (by decide)) ⟨(evi 2 (by decide)).1, hst, nm_r (by rw [hsc, (evi 2 (by decide)).2]) (nm_r (nI_1 _) (hpush _ rfl))⟩
      · rw [ec_st_3] at ht2
        cases ht2
        exact br_t (nI_le (a := 3) (by decide) (by decide)) (br_t rfl ⟨(evi 0 (by decide)).1, hst, nm_r (congrArg (upd stk · _) hsc |>.trans (congrArg (upd stk _ ·) (evi 0 (by decide)).2)) (nm_r (nI_1 _) (hpush _ rfl))⟩)
      · rw [ec_st_4] at ht2
        cases ht2
        exact br_t (nI_le (a := 3) (by decide) (by decide)) (br_f (ec_neL (b := 3) (by decide) (by decide) (by decide)) ⟨(evi 3 (by decide)).1, hst, nm_r (congrArg (upd stk · _) hsc |>.trans (congrArg (upd stk _ ·) (evi 3 (by decide)).2)) (nm_r (nI_1 _) (hpush _ rfl))⟩)
    refine br_t (nI_le (a := 5) (by omega) (by omega)) ?_
    by_cases o12 : o = 12
    · subst o12
      rw [ec_st_12] at ht2
      refine br_t rfl ?_
      cases st with
      | nil => cases ht2
      | cons x r =>
        cases ht2
        have q : nI (x :: r).length - 1 = nI r.length := nI_pred _
        have qc : (nI r.length).toNatClampNeg = r.length := nI_clamp (by rw [List.length_cons] at hl; omega)
        have qi : vp_in (nI r.length) 12 := vp_in_nI (by rw [List.length_cons] at hl; omega) (by omega)
        have go := ih (upd stk r.length (ec_nt x)) (by omega) ht (ec_stk_push h2.2) n (by omega)
        rw [q]
        refine ⟨qi, ?_⟩
        rw [qc, h2.1]
        by_cases z : x = 0
        · have z2 : ec_nt x = 1 := if_pos z
          rw [z2] at go
          exact br_t z ⟨qi, nm_e (nm_r (nI_1 _) go)⟩
        · have z2 : ec_nt x = 0 := if_neg z
          rw [z2] at go
          exact br_f z ⟨qi, nm_e (nm_r (nI_1 _) go)⟩
    refine br_f (ec_neL (b := 12) o12 (by omega) (by decide)) ?_
    by_cases o20 : o ≤ 20
    · rw [ec_st_b (by omega) o20 o12] at ht2
      refine br_t (nI_le (b := 20) o20 (by decide)) ?_
      cases st with
      | nil => cases ht2
      | cons y r =>
        cases r with
        | nil => cases ht2
        | cons x r =>
          cases ht2
          have l2 : r.length + 2 ≤ i := hl
          have q : nI (y :: x :: r).length + (-1) = nI (r.length + 1) := pk_m1 _
          have q2 : nI (r.length + 1) - 1 = nI r.length := nI_pred _
          have qc : (nI r.length).toNatClampNeg = r.length := nI_clamp (by omega)
          have qi : vp_in (nI r.length) 12 := vp_in_nI (by omega) (by omega)
          have qc1 : (nI (r.length + 1)).toNatClampNeg = r.length + 1 := nI_clamp (by omega)
          have qi1 : vp_in (nI (r.length + 1)) 12 := vp_in_nI (by omega) (by omega)
          have go := ih (upd stk r.length (ec_cp (nI o) x y)) (by omega) ht (ec_stk_push h2.2.2) n (by omega)
          refine nm_r q ?_
          rw [q2, qc, qc1]
          refine ⟨qi, qi1, ?_⟩
          have e1 : stk (r.length + 1) = y := h2.1
          have e2 : stk r.length = x := h2.2.1
          rw [e1, e2]
          exact ec_xcp ⟨qi, nm_e (nm_r (nI_1 _) go)⟩
    · rw [ec_st_u (by omega) ho] at ht2
      refine br_f (nI_ge (a := 20) (by omega) (by omega)) ?_
      cases st with
      | nil => cases ht2
      | cons x r =>
        cases ht2
        have q : nI (x :: r).length - 1 = nI r.length := nI_pred _
        have qc : (nI r.length).toNatClampNeg = r.length := nI_clamp (by rw [List.length_cons] at hl; omega)
        have qi : vp_in (nI r.length) 12 := vp_in_nI (by rw [List.length_cons] at hl; omega) (by omega)
        have go := ih (upd stk r.length (ec_cp (nI o - 20) x (a_arg (36 * s + 12 * c + i)))) (by omega) ht (ec_stk_push h2.2) n (by omega)
        rw [q]
        refine ⟨qi, hin, ?_⟩
        rw [qc, h2.1, hcl]
        exact ec_xcp ⟨qi, nm_e (nm_r (nI_1 _) go)⟩
theorem xm_meets (hs : s < 6) (hc : c < 3) (he : e < 64) (hN : N ≤ 12) (hfe : ∀ i, i < 4 → a_event (4 * e + i) = fe i) (hq : a_question (64 * s + 16 + c) = nI N)
    (hop : ∀ i, i < N → ∃ o, o ≤ 33 ∧ a_code (36 * s + 12 * c + i) = nI o)
    (hr : ec_run fe (fun i => a_code (36 * s + 12 * c + i)) (fun i => a_arg (36 * s + 12 * c + i)) N = some [v])
    (hp : ∀ stk, post (if v = 0 then 0 else 1) (f_terms, f_conditions, f_happened, f_waiting, f_lost, f_time, f_all, f_oldHappened, f_oldLost, f_oldTime, f_oldAll, f_kept, a_termOp, a_termValue, a_askedCode, a_code, a_oldCode, a_askedArg, a_arg, a_oldArg, a_askedLength, stk, a_question, a_oldQuestion, a_list, a_oldList, a_event, a_oldEvent)) : wpX_meets post (f_terms, f_conditions, f_happened, f_waiting, f_lost, f_time, f_all, f_oldHappened, f_oldLost, f_oldTime, f_oldAll, f_kept, a_termOp, a_termValue, a_askedCode, a_code, a_oldCode, a_askedArg, a_arg, a_oldArg, a_askedLength, a_stack, a_question, a_oldQuestion, a_list, a_oldList, a_event, a_oldEvent) (nI s) (nI c) (nI e) := by
  have q1 : (36 : Int32) * nI s + 12 * nI c = nI (36 * s + 12 * c) := by rw [← nI_add, ← pk_mul, ← pk_mul]; rfl
  have q2 : (64 : Int32) * nI s + 16 + nI c = nI (64 * s + 16 + c) := by rw [← nI_add, ← nI_add, ← pk_mul]; rfl
  have q3 : (nI (64 * s + 16 + c)).toNatClampNeg = 64 * s + 16 + c := nI_clamp (by omega)
  unfold wpX_meets
  refine nm_r q1 ?_
  rw [q2, q3, hq]
  refine ⟨vp_in_nI (by omega) (by omega), nm_r (nI_add _ _) ⟨N + 1, ?_⟩⟩
  exact xm_loop hs hc he hN hfe hop hr hp N 0 [] a_stack (by omega) rfl trivial (N + 1) (by omega)
end
end
section
/-! the reference's meets -/
section
variable {h_terms h_listed h_kept h_waits h_begun h_has h_out : Int32} {b_term b_list b_q b_ev b_g b_keptQ b_keptEv b_keptG b_waiting b_stack b_met b_view b_sorted b_breaks : Nat → Int32} {fe : Nat → Int32} {B e N : Nat} {v : Int32} {post : Int32 → SY → Prop}
theorem ym_loop (hB : B + 25 ≤ 600) (he : e < 64) (hN : N ≤ 12) (hq : b_q B = nI N) (hfe : ∀ i, i < 4 → b_ev (4 * e + i) = fe i)
    (hop : ∀ i, i < N → ∃ o, o ≤ 13 ∧ b_q (B + 1 + 2 * i) = nI o)
    (hr : ec_run fe (fun i => b_q (B + 1 + 2 * i)) (fun i => b_q (B + 2 + 2 * i)) N = some [v])
    (hp : ∀ stk, post (if v = 0 then 0 else 1) (h_terms, h_listed, h_kept, h_waits, h_begun, h_has, h_out, b_term, b_list, b_q, b_ev, b_g, b_keptQ, b_keptEv, b_keptG, b_waiting, stk, b_met, b_view, b_sorted, b_breaks)) :
    ∀ d i st stk, i + d = N → ec_run fe (fun i => b_q (B + 1 + 2 * i)) (fun i => b_q (B + 2 + 2 * i)) i = some st → ec_stk stk st → ∀ n, d < n →
      wY_meets_20 post (nI e) (nI B) h_terms h_listed h_kept h_waits h_begun h_has h_out n (nI st.length) (nI i) b_term b_list b_q b_ev b_g b_keptQ b_keptEv b_keptG b_waiting stk b_met b_view b_sorted b_breaks := by
  intro d
  have hBi : vp_in (nI B) 600 := vp_in_nI (by omega) (by omega)
  have hBc : (nI B).toNatClampNeg = B := nI_clamp (by omega)
  induction d with
  | zero =>
    intro i st stk hi h1 h2 n hn
    obtain ⟨n, rfl⟩ : ∃ m, n = m + 1 := ⟨n - 1, by omega⟩
    have e1 : i = N := by omega
    subst e1
    rw [hr] at h1
    cases h1
    have h0 : stk 0 = v := h2.1
    have hp := hp stk
    have c0 : b_q (nI B).toNatClampNeg ≤ nI i := by rw [hBc, hq]; exact nI_le (Nat.le_refl _) (by omega)
    by_cases z : v = 0
    · rw [if_pos z] at hp
      exact ⟨hBi, br_t c0 (br_t (h0.trans z) hp)⟩
    · rw [if_neg z] at hp
      exact ⟨hBi, br_t c0 (br_f (fun q => z (h0.symm.trans q)) hp)⟩
  | succ d ih =>
    intro i st stk hi h1 h2 n hn
    obtain ⟨n, rfl⟩ : ∃ m, n = m + 1 := ⟨n - 1, by omega⟩
    obtain ⟨o, ho, ho2⟩ := hop i (by omega)
    obtain ⟨t, ht⟩ := ec_run_pre (d := d) (i := i + 1) (by omega) hr
    have hl := ec_run_len h1
    have ih := ih (i + 1) t
    have ht2 := ht
    rw [ec_run, h1] at ht2
    have ht2 : ec_st fe (b_q (B + 1 + 2 * i)) (b_q (B + 2 + 2 * i)) st = some t := ht2
    rw [ho2] at ht2
    have c0 : ¬ b_q (nI B).toNatClampNeg ≤ nI i := by rw [hBc, hq]; exact nI_ge (by omega) (by omega)
    have q1 : nI B + 1 + 2 * nI i = nI (B + 1 + 2 * i) := by rw [← nI_add, ← nI_add, ← pk_mul]; rfl
    have q2 : nI B + 2 + 2 * nI i = nI (B + 2 + 2 * i) := by rw [← nI_add, ← nI_add, ← pk_mul]; rfl
    have q1i : vp_in (nI B + 1 + 2 * nI i) 600 := by rw [q1]; exact vp_in_nI (by omega) (by omega)
    have q1c : (nI B + 1 + 2 * nI i).toNatClampNeg = B + 1 + 2 * i := by rw [q1]; exact nI_clamp (by omega)
    have q2i : vp_in (nI B + 2 + 2 * nI i) 600 := by rw [q2]; exact vp_in_nI (by omega) (by omega)
    have q2c : (nI B + 2 + 2 * nI i).toNatClampNeg = B + 2 + 2 * i := by rw [q2]; exact nI_clamp (by omega)
    have hst : vp_in (nI st.length) 13 := vp_in_nI (by omega) (by omega)
    have hsc : (nI st.length).toNatClampNeg = st.length := nI_clamp (by omega)
    have hpush : ∀ w, t = w :: st → wY_meets_20 post (nI e) (nI B) h_terms h_listed h_kept h_waits h_begun h_has h_out n (nI (st.length + 1)) (nI (i + 1)) b_term b_list b_q b_ev b_g b_keptQ b_keptEv b_keptG b_waiting (upd stk st.length w) b_met b_view b_sorted b_breaks := by
      intro w hw
      have := ih (upd stk st.length w) (by omega) ht (by rw [hw]; exact ec_stk_push h2) n (by omega)
      rw [hw] at this
      exact this
    have evi : ∀ j, j < 4 → vp_in (4 * nI e + nI j) 256 ∧ b_ev (4 * nI e + nI j).toNatClampNeg = fe j := by
      intro j hj
      have q : (4 : Int32) * nI e + nI j = nI (4 * e + j) := by
        rw [← nI_add, ← pk_mul]; rfl
      rw [q, nI_clamp (by omega)]
      exact ⟨vp_in_nI (by omega) (by omega), hfe j hj⟩
    have ev0 : vp_in (4 * nI e) 256 ∧ b_ev (4 * nI e).toNatClampNeg = fe 0 := by
      have q : (4 : Int32) * nI e = nI (4 * e) := by rw [← pk_mul]; rfl
      rw [q, nI_clamp (by omega)]
      exact ⟨vp_in_nI (by omega) (by omega), hfe 0 (by decide)⟩
    refine ⟨hBi, br_f c0 ⟨q1i, nm_r (e' := nI o) (by rw [q1c, ho2]) ?_⟩⟩
    by_cases o5 : o < 5
    · refine br_f (nI_ge (b := 5) o5 (by decide)) (br_t (Int32.le_refl 0) (br_t (by decide) (nm_r (Int32.sub_zero _) (nm_r (nI_1 _) ?_))))
      rcases (show o = 0 ∨ o = 1 ∨ o = 2 ∨ o = 3 ∨ o = 4 by omega) with rfl | rfl | rfl | rfl | rfl
      · rw [ec_st_0] at ht2
        cases ht2
        exact br_t rfl ⟨q2i, hst, nm_r (by rw [hsc, q2c]) (nm_r (nI_1 _) (hpush _ rfl))⟩
      · rw [ec_st_1] at ht2
        cases ht2
        exact br_f (by decide) (br_t rfl ⟨(evi 1 (by decide)).1, hst, nm_r (congrArg (upd stk · _) hsc |>.trans (congrArg (upd stk _ ·) (evi 1 (by decide)).2)) (nm_r (nI_1 _) (hpush _ rfl))⟩)
      · rw [ec_st_2] at ht2
        cases ht2
        exact br_f (by decide) (br_f (by decide) (br_t rfl ⟨(evi 2 (by decide)).1, hst, nm_r (congrArg (upd stk · _) hsc |>.trans (congrArg (upd stk _ ·) (evi 2 (by decide)).2)) (nm_r (nI_1 _) (hpush _ rfl))⟩))
      · rw [ec_st_3] at ht2
        cases ht2
        exact br_f (by decide) (br_f (by decide) (br_f (by decide) (br_t rfl ⟨ev0.1, hst, nm_r (congrArg (upd stk · _) hsc |>.trans (congrArg (upd stk _ ·) ev0.2)) (nm_r (nI_1 _) (hpush _ rfl))⟩)))
      · rw [ec_st_4] at ht2
        cases ht2
        exact br_f (by decide) (br_f (by decide) (br_f (by decide) (br_f (by decide) (br_t rfl ⟨(evi 3 (by decide)).1, hst, nm_r (congrArg (upd stk · _) hsc |>.trans (congrArg (upd stk _ ·) (evi 3 (by decide)).2)) (nm_r (nI_1 _) (hpush _ rfl))⟩))))
    refine br_t (nI_le (a := 5) (by omega) (by omega)) ?_
    have nz : ∀ {A1 A2 A3 A4 A5 B1 B2 B3 B4 B5 : Prop}, B5 → (nI o = 0 → A1) ∧ (¬ nI o = 0 → (nI o = 1 → A2) ∧ (¬ nI o = 1 → (nI o = 2 → A3) ∧ (¬ nI o = 2 → (nI o = 3 → A4) ∧ (¬ nI o = 3 → (nI o = 4 → A5) ∧ (¬ nI o = 4 → B5))))) := by
      intro A1 A2 A3 A4 A5 B1 B2 B3 B4 B5 b
      exact br_f (ec_neL (b := 0) (by omega) (by omega) (by decide)) (br_f (ec_neL (b := 1) (by omega) (by omega) (by decide)) (br_f (ec_neL (b := 2) (by omega) (by omega) (by decide)) (br_f (ec_neL (b := 3) (by omega) (by omega) (by decide)) (br_f (ec_neL (b := 4) (by omega) (by omega) (by decide)) b))))
    by_cases o12 : o = 12
    · subst o12
      rw [ec_st_12] at ht2
      refine br_t rfl (br_f (by decide) ?_)
      cases st with
      | nil => cases ht2
      | cons x r =>
        cases ht2
        have l2 : r.length + 1 ≤ i := hl
        have q : nI (x :: r).length - 1 = nI r.length := nI_pred _
        have qc : (nI r.length).toNatClampNeg = r.length := nI_clamp (by omega)
        have qi : vp_in (nI r.length) 13 := vp_in_nI (by omega) (by omega)
        have go := ih (upd stk r.length (ec_nt x)) (by omega) ht (ec_stk_push h2.2) n (by omega)
        rw [q, qc, h2.1]
        refine ⟨qi, br_t (by decide) (nm_r q (nm_r (nI_1 _) (nz (B1 := True) (B2 := True) (B3 := True) (B4 := True) ?_)))⟩
        exact ec_ycp ⟨qi, nm_r (by rw [qc]; rfl) (nm_r (nI_1 _) go)⟩
    · rw [ec_st_b (by omega) (by omega) o12] at ht2
      refine br_f (ec_neL (b := 12) o12 (by omega) (by decide)) (br_f (by decide) ?_)
      cases st with
      | nil => cases ht2
      | cons y r =>
        cases r with
        | nil => cases ht2
        | cons x r =>
          cases ht2
          have l2 : r.length + 2 ≤ i := hl
          have q : nI (y :: x :: r).length - 1 = nI (r.length + 1) := nI_pred _
          have q0 : nI (y :: x :: r).length - 2 = nI r.length := pk_sub (a := r.length + 2) (b := 2) (by omega)
          have qc : (nI r.length).toNatClampNeg = r.length := nI_clamp (by omega)
          have qi : vp_in (nI r.length) 13 := vp_in_nI (by omega) (by omega)
          have qc1 : (nI (r.length + 1)).toNatClampNeg = r.length + 1 := nI_clamp (by omega)
          have qi1 : vp_in (nI (r.length + 1)) 13 := vp_in_nI (by omega) (by omega)
          have go := ih (upd stk r.length (ec_cp (nI o) x y)) (by omega) ht (ec_stk_push h2.2.2) n (by omega)
          have e1 : stk (r.length + 1) = y := h2.1
          have e2 : stk r.length = x := h2.2.1
          rw [q, qc1, e1]
          refine ⟨qi1, br_f (by decide) ?_⟩
          rw [q0, qc, e2]
          refine ⟨qi, nm_r q0 (nm_r (nI_1 _) (nz (B1 := True) (B2 := True) (B3 := True) (B4 := True) ?_))⟩
          have o12' : ¬ nI o = 12 := ec_neL (b := 12) o12 (by omega) (by decide)
          exact ec_ycp (by rw [if_neg o12']; exact ⟨qi, nm_r (by rw [qc]) (nm_r (nI_1 _) go)⟩)
theorem ym_meets {s c : Nat} (hs : s < 6) (hc : c < 3) (he : e < 64) (hN : N ≤ 12) (hq : b_q (100 * s + 24 + 25 * c) = nI N) (hfe : ∀ i, i < 4 → b_ev (4 * e + i) = fe i)
    (hop : ∀ i, i < N → ∃ o, o ≤ 13 ∧ b_q (100 * s + 24 + 25 * c + 1 + 2 * i) = nI o)
    (hr : ec_run fe (fun i => b_q (100 * s + 24 + 25 * c + 1 + 2 * i)) (fun i => b_q (100 * s + 24 + 25 * c + 2 + 2 * i)) N = some [v])
    (hp : ∀ stk, post (if v = 0 then 0 else 1) (h_terms, h_listed, h_kept, h_waits, h_begun, h_has, h_out, b_term, b_list, b_q, b_ev, b_g, b_keptQ, b_keptEv, b_keptG, b_waiting, stk, b_met, b_view, b_sorted, b_breaks)) : wpY_meets post (h_terms, h_listed, h_kept, h_waits, h_begun, h_has, h_out, b_term, b_list, b_q, b_ev, b_g, b_keptQ, b_keptEv, b_keptG, b_waiting, b_stack, b_met, b_view, b_sorted, b_breaks) (nI s) (nI c) (nI e) := by
  have q1 : (100 : Int32) * nI s + 24 + 25 * nI c = nI (100 * s + 24 + 25 * c) := by rw [← nI_add, ← nI_add, ← pk_mul, ← pk_mul]; rfl
  unfold wpY_meets
  refine nm_r q1 ⟨N + 1, ?_⟩
  exact ym_loop (by omega) he hN hq hfe hop hr hp N 0 [] b_stack (by omega) rfl trivial (N + 1) (by omega)
end
end
section
/-! the component's windows: order, rank -/
def ew_gp (fl : Int32) (av : Nat → Int32) (k : Nat) : Int32 := if fl = 1 then av k else 0
def ew_bf (fl : Int32) (av bv : Nat → Int32) (k j : Nat) : Bool :=
  if ew_gp fl av k = ew_gp fl av j then (if bv k = bv j then decide (k < j) else decide (bv k < bv j)) else decide (ew_gp fl av k < ew_gp fl av j)
section
variable {f_terms f_conditions f_happened f_waiting f_lost f_time f_all f_oldHappened f_oldLost f_oldTime f_oldAll f_kept : Int32} {a_termOp a_termValue a_askedCode a_code a_oldCode a_askedArg a_arg a_oldArg a_askedLength a_stack a_question a_oldQuestion a_list a_oldList a_event a_oldEvent : Nat → Int32} {s e k j H : Nat} {av bv : Nat → Int32} {fl : Int32} {post : Int32 → Prop}
theorem xw_t (he : e < 64) (hp : post (a_event (4 * e))) : wpX_typeOf post (f_terms, f_conditions, f_happened, f_waiting, f_lost, f_time, f_all, f_oldHappened, f_oldLost, f_oldTime, f_oldAll, f_kept, a_termOp, a_termValue, a_askedCode, a_code, a_oldCode, a_askedArg, a_arg, a_oldArg, a_askedLength, a_stack, a_question, a_oldQuestion, a_list, a_oldList, a_event, a_oldEvent) (nI e) := by
  have q : (4 : Int32) * nI e = nI (4 * e) := by rw [← pk_mul]; rfl
  unfold wpX_typeOf
  dsimp only
  rw [q, nI_clamp (by omega)]
  exact ⟨vp_in_nI (by omega) (by omega), hp⟩
theorem xw_a (he : e < 64) (hp : post (a_event (4 * e + 1))) : wpX_a post (f_terms, f_conditions, f_happened, f_waiting, f_lost, f_time, f_all, f_oldHappened, f_oldLost, f_oldTime, f_oldAll, f_kept, a_termOp, a_termValue, a_askedCode, a_code, a_oldCode, a_askedArg, a_arg, a_oldArg, a_askedLength, a_stack, a_question, a_oldQuestion, a_list, a_oldList, a_event, a_oldEvent) (nI e) := by
  have q : (4 : Int32) * nI e + 1 = nI (4 * e + 1) := by rw [← nI_add, ← pk_mul]; rfl
  unfold wpX_a
  dsimp only
  rw [q, nI_clamp (by omega)]
  exact ⟨vp_in_nI (by omega) (by omega), hp⟩
theorem xw_b (he : e < 64) (hp : post (a_event (4 * e + 2))) : wpX_b post (f_terms, f_conditions, f_happened, f_waiting, f_lost, f_time, f_all, f_oldHappened, f_oldLost, f_oldTime, f_oldAll, f_kept, a_termOp, a_termValue, a_askedCode, a_code, a_oldCode, a_askedArg, a_arg, a_oldArg, a_askedLength, a_stack, a_question, a_oldQuestion, a_list, a_oldList, a_event, a_oldEvent) (nI e) := by
  have q : (4 : Int32) * nI e + 2 = nI (4 * e + 2) := by rw [← nI_add, ← pk_mul]; rfl
  unfold wpX_b
  dsimp only
  rw [q, nI_clamp (by omega)]
  exact ⟨vp_in_nI (by omega) (by omega), hp⟩
theorem xw_group (hs : s < 6) (he : e < H) (hH : H ≤ 64) (hav : ∀ k, k < H → a_event (4 * k + 1) = av k) (hfl : a_question (64 * s + 5) = fl) (hp : post (ew_gp fl av e)) : wpX_group post (f_terms, f_conditions, f_happened, f_waiting, f_lost, f_time, f_all, f_oldHappened, f_oldLost, f_oldTime, f_oldAll, f_kept, a_termOp, a_termValue, a_askedCode, a_code, a_oldCode, a_askedArg, a_arg, a_oldArg, a_askedLength, a_stack, a_question, a_oldQuestion, a_list, a_oldList, a_event, a_oldEvent) (nI (64 * s)) (nI e) := by
  have q : nI (64 * s) + 5 = nI (64 * s + 5) := nI_add _ 5
  unfold wpX_group
  dsimp only
  rw [q, nI_clamp (by omega), hfl]
  unfold ew_gp at hp
  refine ⟨vp_in_nI (by omega) (by omega), br_c (fun c => ?_) (fun c => ?_)⟩
  · rw [if_pos c] at hp
    exact xw_a (by omega) (by rw [hav e he]; exact hp)
  · rw [if_neg c] at hp
    exact hp
theorem xw_before (hs : s < 6) (hk : k < H) (hj : j < H) (hH : H ≤ 64) (hav : ∀ k, k < H → a_event (4 * k + 1) = av k) (hbv : ∀ k, k < H → a_event (4 * k + 2) = bv k) (hfl : a_question (64 * s + 5) = fl)
    (hp : post (if ew_bf fl av bv k j = true then 1 else 0)) : wpX_isBefore post (f_terms, f_conditions, f_happened, f_waiting, f_lost, f_time, f_all, f_oldHappened, f_oldLost, f_oldTime, f_oldAll, f_kept, a_termOp, a_termValue, a_askedCode, a_code, a_oldCode, a_askedArg, a_arg, a_oldArg, a_askedLength, a_stack, a_question, a_oldQuestion, a_list, a_oldList, a_event, a_oldEvent) (nI (64 * s)) (nI k) (nI j) := by
  unfold wpX_isBefore
  dsimp only
  refine xw_group hs hk hH hav hfl (xw_group hs hj hH hav hfl ?_)
  unfold ew_bf at hp
  refine br_c (fun c => ?_) (fun c => ?_)
  · rw [if_pos c] at hp
    refine xw_b (by omega) (xw_b (by omega) ?_)
    rw [hbv k hk, hbv j hj]
    refine br_c (fun d => ?_) (fun d => ?_)
    · rw [if_pos d] at hp
      refine pk_le j k (fun h => ?_) (fun h => ?_)
      · rw [decide_eq_false (by omega)] at hp; exact hp
      · rw [decide_eq_true h] at hp; exact hp
    · rw [if_neg d] at hp
      refine xw_b (by omega) (xw_b (by omega) ?_)
      rw [hbv k hk, hbv j hj]
      refine br_c (fun h => ?_) (fun h => ?_)
      · rw [decide_eq_false (Int32.not_lt.mpr h)] at hp; exact hp
      · rw [decide_eq_true (Int32.not_le.mp h)] at hp; exact hp
  · rw [if_neg c] at hp
    refine br_c (fun h => ?_) (fun h => ?_)
    · rw [decide_eq_false (Int32.not_lt.mpr h)] at hp; exact hp
    · rw [decide_eq_true (Int32.not_le.mp h)] at hp; exact hp
theorem xw_rank_loop {S : List Nat} {r : Nat} (hs : s < 6) (he : e < H) (hH : H ≤ 64) (hav : ∀ k, k < H → a_event (4 * k + 1) = av k) (hbv : ∀ k, k < H → a_event (4 * k + 2) = bv k) (hfl : a_question (64 * s + 5) = fl)
    (hS : ∀ i (h : i < S.length), a_list (256 * s + i) = nI S[i]) (h64 : S.length ≤ 64) (hm : ∀ k ∈ S, k < H)
    (h1 : ∀ i (h : i < S.length), i < r → ew_bf fl av bv S[i] e = true) (h2 : ∀ i (h : i < S.length), r ≤ i → ew_bf fl av bv S[i] e = false) (hp : post (nI r)) :
    ∀ d lo hi, hi - lo ≤ d → lo ≤ r → r ≤ hi → hi ≤ S.length → ∀ n, d < n → wX_rank_28 post (nI e) (nI (64 * s)) (nI (256 * s)) f_terms f_conditions f_happened f_waiting f_lost f_time f_all f_oldHappened f_oldLost f_oldTime f_oldAll f_kept a_termOp a_termValue a_askedCode a_code a_oldCode a_askedArg a_arg a_oldArg a_askedLength a_stack a_question a_oldQuestion a_list a_oldList a_event a_oldEvent n (nI lo) (nI hi) := by
  intro d
  induction d with
  | zero =>
    intro lo hi hd hl hh hle n hn
    obtain ⟨n, rfl⟩ : ∃ m, n = m + 1 := ⟨n - 1, by omega⟩
    have e1 : lo = r := by omega
    have e2 : hi = r := by omega
    subst e1; subst e2
    exact br_t (Int32.le_refl _) hp
  | succ d ih =>
    intro lo hi hd hl hh hle n hn
    obtain ⟨n, rfl⟩ : ∃ m, n = m + 1 := ⟨n - 1, by omega⟩
    by_cases c : hi ≤ lo
    · have e1 : lo = r := by omega
      have e2 : hi = r := by omega
      subst e1; subst e2
      exact br_t (Int32.le_refl _) hp
    · have hmid : (lo + hi) / 2 < S.length := by omega
      have q1 : (nI lo + nI hi) >>> ((1 : Int32) &&& 31) = nI ((lo + hi) / 2) := by rw [nI_add]; exact ed_shr1 (by omega)
      have q2 : nI (256 * s) + nI ((lo + hi) / 2) = nI (256 * s + (lo + hi) / 2) := nI_add _ _
      refine br_f (nI_ge (by omega) (by omega)) (nm_r q1 ?_)
      rw [q2, nI_clamp (by omega), hS _ hmid]
      refine ⟨vp_in_nI (by omega) (by omega), ?_⟩
      refine xw_before hs (hm _ (List.getElem_mem hmid)) he hH hav hbv hfl ?_
      by_cases b : (lo + hi) / 2 < r
      · rw [h1 _ hmid b]
        exact br_f (by decide) (nm_r (nI_1 _) (ih _ _ (by omega) (by omega) hh hle n (by omega)))
      · rw [h2 _ hmid (by omega)]
        exact br_t rfl (ih _ _ (by omega) hl (by omega) (by omega) n (by omega))
theorem xw_rank {S : List Nat} {r : Nat} (hs : s < 6) (he : e < H) (hH : H ≤ 64) (hav : ∀ k, k < H → a_event (4 * k + 1) = av k) (hbv : ∀ k, k < H → a_event (4 * k + 2) = bv k) (hfl : a_question (64 * s + 5) = fl)
    (hlen : a_question (64 * s + 12) = nI S.length) (hS : ∀ i (h : i < S.length), a_list (256 * s + i) = nI S[i]) (h64 : S.length ≤ 64) (hm : ∀ k ∈ S, k < H) (hr : r ≤ S.length)
    (h1 : ∀ i (h : i < S.length), i < r → ew_bf fl av bv S[i] e = true) (h2 : ∀ i (h : i < S.length), r ≤ i → ew_bf fl av bv S[i] e = false) (hp : post (nI r)) : wpX_rank post (f_terms, f_conditions, f_happened, f_waiting, f_lost, f_time, f_all, f_oldHappened, f_oldLost, f_oldTime, f_oldAll, f_kept, a_termOp, a_termValue, a_askedCode, a_code, a_oldCode, a_askedArg, a_arg, a_oldArg, a_askedLength, a_stack, a_question, a_oldQuestion, a_list, a_oldList, a_event, a_oldEvent) (nI s) (nI e) := by
  unfold wpX_rank
  have q0 : (64 : Int32) * nI s = nI (64 * s) := by rw [← pk_mul]; rfl
  have q1 : (256 : Int32) * nI s + 0 = nI (256 * s) := by rw [Int32.add_zero, ← pk_mul]; rfl
  have q2 : nI (64 * s) + 12 = nI (64 * s + 12) := nI_add _ 12
  refine nm_r q0 ?_
  rw [q2, nI_clamp (by omega), hlen]
  refine ⟨vp_in_nI (by omega) (by omega), nm_e (nm_r q1 ⟨S.length + 1, ?_⟩)⟩
  exact xw_rank_loop hs he hH hav hbv hfl hS h64 hm h1 h2 hp S.length 0 S.length (by omega) (by omega) hr (Nat.le_refl _) (S.length + 1) (by omega)
end
/-! the order is strict and total -/
section
variable {fl : Int32} {av bv : Nat → Int32}
theorem ew_bf_iff {a b : Nat} : ew_bf fl av bv a b = true ↔ (ew_gp fl av a < ew_gp fl av b ∨ (ew_gp fl av a = ew_gp fl av b ∧ (bv a < bv b ∨ (bv a = bv b ∧ a < b)))) := by
  unfold ew_bf
  have lt_ne : ∀ {x y : Int32}, x < y → x ≠ y := fun h e => Int32.lt_irrefl (e ▸ h)
  by_cases c : ew_gp fl av a = ew_gp fl av b
  · rw [if_pos c]
    have n : ¬ ew_gp fl av a < ew_gp fl av b := fun h => lt_ne h c
    by_cases d : bv a = bv b
    · rw [if_pos d, decide_eq_true_eq]
      have n2 : ¬ bv a < bv b := fun h => lt_ne h d
      exact ⟨fun h => Or.inr ⟨c, Or.inr ⟨d, h⟩⟩, fun h => by
        rcases h with h | ⟨_, h | h⟩
        · exact absurd h n
        · exact absurd h n2
        · exact h.2⟩
    · rw [if_neg d, decide_eq_true_eq]
      exact ⟨fun h => Or.inr ⟨c, Or.inl h⟩, fun h => by
        rcases h with h | ⟨_, h | h⟩
        · exact absurd h n
        · exact h
        · exact absurd h.1 d⟩
  · rw [if_neg c, decide_eq_true_eq]
    exact ⟨fun h => Or.inl h, fun h => by
      rcases h with h | h
      · exact h
      · exact absurd h.1 c⟩
theorem ew_bf_irr {a : Nat} : ew_bf fl av bv a a = false := by
  cases h : ew_bf fl av bv a a with
  | false => rfl
  | true =>
    rw [ew_bf_iff] at h
    rcases h with h | ⟨_, h | h⟩
    · exact absurd h Int32.lt_irrefl
    · exact absurd h Int32.lt_irrefl
    · omega
theorem ew_bf_trans {a b c : Nat} (h1 : ew_bf fl av bv a b = true) (h2 : ew_bf fl av bv b c = true) : ew_bf fl av bv a c = true := by
  rw [ew_bf_iff] at h1 h2 ⊢
  simp only [Int32.lt_iff_toInt_lt, ← Int32.toInt_inj] at h1 h2 ⊢
  omega
theorem ew_bf_asymm {a b : Nat} (h1 : ew_bf fl av bv a b = true) : ew_bf fl av bv b a = false := by
  cases h : ew_bf fl av bv b a with
  | false => rfl
  | true => have := ew_bf_trans h1 h; rw [ew_bf_irr] at this; cases this
theorem ew_bf_total {a b : Nat} (n : a ≠ b) (h : ew_bf fl av bv a b = false) : ew_bf fl av bv b a = true := by
  have h' : ¬ ew_bf fl av bv a b = true := by rw [h]; decide
  rw [ew_bf_iff] at h' ⊢
  simp only [Int32.lt_iff_toInt_lt, ← Int32.toInt_inj] at h' ⊢
  omega
/-- the place of e in a sorted list -/
theorem ew_place {S : List Nat} {e : Nat} (hs : S.Pairwise (fun a b => ew_bf fl av bv a b = true)) : ∃ r, r ≤ S.length ∧ (∀ i (h : i < S.length), i < r → ew_bf fl av bv S[i] e = true) ∧ (∀ i (h : i < S.length), r ≤ i → ew_bf fl av bv S[i] e = false) := by
  induction S with
  | nil => exact ⟨0, Nat.le_refl 0, fun i h => absurd h (by simp), fun i h => absurd h (by simp)⟩
  | cons x S ih =>
    rw [List.pairwise_cons] at hs
    cases hx : ew_bf fl av bv x e with
    | true =>
      obtain ⟨r, a, b, c⟩ := ih hs.2
      refine ⟨r + 1, by rw [List.length_cons]; omega, fun i h hi => ?_, fun i h hi => ?_⟩
      · cases i with
        | zero => exact hx
        | succ i => exact b i (by rw [List.length_cons] at h; omega) (by omega)
      · cases i with
        | zero => omega
        | succ i => exact c i (by rw [List.length_cons] at h; omega) (by omega)
    | false =>
      refine ⟨0, by omega, fun i h hi => by omega, fun i h hi => ?_⟩
      cases i with
      | zero => exact hx
      | succ i =>
        have hl : i < S.length := by rw [List.length_cons] at h; omega
        show ew_bf fl av bv S[i] e = false
        cases hy : ew_bf fl av bv S[i] e with
        | false => rfl
        | true => rw [ew_bf_trans (hs.1 _ (List.getElem_mem hl)) hy] at hx; cases hx
/-- a member's own place -/
theorem ew_own {S : List Nat} {r : Nat} (hs : S.Pairwise (fun a b => ew_bf fl av bv a b = true)) (hr : r < S.length) : (∀ i (h : i < S.length), i < r → ew_bf fl av bv S[i] S[r] = true) ∧ (∀ i (h : i < S.length), r ≤ i → ew_bf fl av bv S[i] S[r] = false) := by
  rw [List.pairwise_iff_getElem] at hs
  refine ⟨fun i h hi => hs i r h hr hi, fun i h hi => ?_⟩
  by_cases e : r = i
  · subst e; exact ew_bf_irr
  · exact ew_bf_asymm (hs r i hr h (by omega))
theorem ew_ins {S : List Nat} {e r : Nat} (hs : S.Pairwise (fun a b => ew_bf fl av bv a b = true)) (hr : r ≤ S.length) (hn : e ∉ S) (h1 : ∀ i (h : i < S.length), i < r → ew_bf fl av bv S[i] e = true) (h2 : ∀ i (h : i < S.length), r ≤ i → ew_bf fl av bv S[i] e = false) :
    (S.insertIdx r e).Pairwise (fun a b => ew_bf fl av bv a b = true) := by
  rw [List.pairwise_iff_getElem] at hs ⊢
  intro i j hi hj hij
  have hl : (S.insertIdx r e).length = S.length + 1 := List.length_insertIdx_of_le_length hr e
  rw [hl] at hi hj
  rw [List.getElem_insertIdx, List.getElem_insertIdx]
  by_cases a : i < r
  · rw [dif_pos a]
    by_cases b : j < r
    · rw [dif_pos b]; exact hs i j _ _ hij
    · rw [dif_neg b]
      by_cases c : j = r
      · rw [dif_pos c]; exact h1 i (by omega) a
      · rw [dif_neg c]; exact hs i (j - 1) _ _ (by omega)
  · rw [dif_neg a, dif_neg (show ¬ j < r by omega), dif_neg (show ¬ j = r by omega)]
    by_cases c : i = r
    · rw [dif_pos c]
      have hj1 : j - 1 < S.length := by omega
      exact ew_bf_total (fun z => hn (z ▸ List.getElem_mem hj1)) (h2 (j - 1) hj1 (by omega))
    · rw [dif_neg c]; exact hs (i - 1) (j - 1) _ _ (by omega)
end
end
section
/-! the component's windows: the sorted list and the ring -/
def ew_rep (qs ls : Nat → Int32) (S L : List Nat) (hd : Nat) : Prop :=
  qs 12 = nI S.length ∧ qs 13 = nI hd ∧ qs 14 = nI L.length ∧ hd < 64 ∧ L.length ≤ 64 ∧ S.Perm L ∧ (∀ i (h : i < S.length), ls i = nI S[i]) ∧ (∀ i (h : i < L.length), ls (64 + (hd + i) % 64) = nI L[i])
/-- cells 12, 13, 14 alone may differ -/
def ew_same (qs qs' : Nat → Int32) : Prop := ∀ j, j ≠ 12 → j ≠ 13 → j ≠ 14 → qs' j = qs j
theorem ew_same_r {qs : Nat → Int32} : ew_same qs qs := fun _ _ _ _ => rfl
theorem ew_same_t {q1 q2 q3 : Nat → Int32} (a : ew_same q1 q2) (b : ew_same q2 q3) : ew_same q1 q3 := fun j x y z => (b j x y z).trans (a j x y z)
theorem ew_same_12 {qs : Nat → Int32} {v : Int32} : ew_same qs (upd qs 12 v) := fun _ x _ _ => pk_un x
theorem ew_same_13 {qs : Nat → Int32} {v : Int32} : ew_same qs (upd qs 13 v) := fun _ _ y _ => pk_un y
theorem ew_same_14 {qs : Nat → Int32} {v : Int32} : ew_same qs (upd qs 14 v) := fun _ _ _ z => pk_un z
/-- the cells behind k up to len have moved up by one -/
def ew_sh (ls : Nat → Int32) (k len : Nat) : Nat → Int32 := fun j => if k < j ∧ j ≤ len then ls (j - 1) else ls j
theorem ew_sh_len {ls : Nat → Int32} {len : Nat} : ew_sh ls len len = ls := funext fun j => if_neg (by omega)
theorem ew_sh_step {ls : Nat → Int32} {k len : Nat} (h : k + 1 ≤ len) : upd (ew_sh ls (k + 1) len) (k + 1) (ew_sh ls (k + 1) len k) = ew_sh ls k len := by
  have e : ew_sh ls (k + 1) len k = ls k := if_neg (by omega)
  rw [e]
  funext j
  by_cases c : j = k + 1
  · subst c
    rw [pk_us]
    exact (if_pos (by omega)).symm
  · rw [pk_un c]
    unfold ew_sh
    by_cases d : k + 1 < j ∧ j ≤ len
    · rw [if_pos d, if_pos (by omega)]
    · rw [if_neg d, if_neg (by omega)]
/-- the cells from r to k - 1 have moved down by one -/
def ew_sd (ls : Nat → Int32) (r k : Nat) : Nat → Int32 := fun j => if r ≤ j ∧ j < k then ls (j + 1) else ls j
theorem ew_sd_0 {ls : Nat → Int32} {r : Nat} : ew_sd ls r r = ls := funext fun j => if_neg (by omega)
theorem ew_sd_step {ls : Nat → Int32} {r k : Nat} (h : r ≤ k) : upd (ew_sd ls r k) k (ew_sd ls r k (k + 1)) = ew_sd ls r (k + 1) := by
  have e : ew_sd ls r k (k + 1) = ls (k + 1) := if_neg (by omega)
  rw [e]
  funext j
  by_cases c : j = k
  · subst c
    rw [pk_us]
    exact (if_pos (by omega)).symm
  · rw [pk_un c]
    unfold ew_sd
    by_cases d : r ≤ j ∧ j < k
    · rw [if_pos d, if_pos (by omega)]
    · rw [if_neg d, if_neg (by omega)]
section
variable {f_terms f_conditions f_happened f_waiting f_lost f_time f_all f_oldHappened f_oldLost f_oldTime f_oldAll f_kept : Int32} {a_termOp a_termValue a_askedCode a_code a_oldCode a_askedArg a_arg a_oldArg a_askedLength a_stack a_question a_oldQuestion a_list a_oldList a_event a_oldEvent : Nat → Int32} {qs ls : Nat → Int32} {s e H hd r len ll : Nat} {av bv : Nat → Int32} {fl : Int32} {S L : List Nat} {post : SX → Prop}
theorem xw_enter_loop (hs : s < 6) (hd64 : hd < 64) (hl : len < 64) (hll : ll < 64) (h13 : qs 13 = nI hd) (h14 : qs 14 = nI ll)
    (hp : post (f_terms, f_conditions, f_happened, f_waiting, f_lost, f_time, f_all, f_oldHappened, f_oldLost, f_oldTime, f_oldAll, f_kept, a_termOp, a_termValue, a_askedCode, a_code, a_oldCode, a_askedArg, a_arg, a_oldArg, a_askedLength, a_stack, (ed_sp a_question (64 * s) 64 (upd qs 14 (nI (ll + 1)))), a_oldQuestion, (ed_sp a_list (256 * s) 256 (upd (upd (ew_sh ls r len) r (nI e)) (64 + (hd + ll) % 64) (nI e))), a_oldList, a_event, a_oldEvent)) :
    ∀ d k, k = r + d → k ≤ len → ∀ n, d < n → wX_enter_36 post (nI e) (nI (64 * s)) (nI (256 * s)) (nI r) f_terms f_conditions f_happened f_waiting f_lost f_time f_all f_oldHappened f_oldLost f_oldTime f_oldAll f_kept n (nI k) a_termOp a_termValue a_askedCode a_code a_oldCode a_askedArg a_arg a_oldArg a_askedLength a_stack (ed_sp a_question (64 * s) 64 qs) a_oldQuestion (ed_sp a_list (256 * s) 256 (ew_sh ls k len)) a_oldList a_event a_oldEvent := by
  intro d
  induction d with
  | zero =>
    intro k hk hkl n hn
    obtain ⟨n, rfl⟩ : ∃ m, n = m + 1 := ⟨n - 1, by omega⟩
    obtain rfl : k = r := by omega
    rw [wX_enter_36]
    refine br_t (Int32.le_refl _) ?_
    simp (disch := omega) only [ed_lit, nI_add, pk_mul, pk_sub, Nat.add_assoc, Nat.add_zero, Nat.zero_add, Nat.reduceAdd, Nat.reduceSub, Nat.reduceMul, Nat.add_sub_cancel, ed_asub, ed_in, nI_clamp, true_and, and_true, ed_sp_get, ed_sp_get0, ed_sp_upd, ed_sp_upd0, forall_eq, forall_const, true_implies, false_implies, not_true_eq_false, not_false_eq_true, and_self, h13, h14, ed_and63]
    exact hp
  | succ d ih =>
    intro k hk hkl n hn
    obtain ⟨n, rfl⟩ : ∃ m, n = m + 1 := ⟨n - 1, by omega⟩
    obtain ⟨k, rfl⟩ : ∃ m, k = m + 1 := ⟨k - 1, by omega⟩
    rw [wX_enter_36]
    refine br_f (nI_ge (by omega) (by omega)) ?_
    simp (disch := omega) only [ed_lit, nI_add, pk_mul, pk_sub, Nat.add_assoc, Nat.add_zero, Nat.zero_add, Nat.reduceAdd, Nat.reduceSub, Nat.reduceMul, Nat.add_sub_cancel, ed_asub, ed_in, nI_clamp, true_and, and_true, ed_sp_get, ed_sp_get0, ed_sp_upd, ed_sp_upd0, forall_eq, forall_const, true_implies, false_implies, not_true_eq_false, not_false_eq_true, and_self, ed_m1, Nat.add_sub_cancel]
    rw [ew_sh_step (by omega)]
    exact ih k (by omega) (by omega) n (by omega)
end
end
section
/-! enter, unsort, leave, empty -/
theorem ew_perm_erase : ∀ {S : List Nat} {r : Nat} (h : r < S.length), S.Perm (S[r] :: S.eraseIdx r)
  | x :: S, 0, _ => List.Perm.refl _
  | x :: S, r + 1, h => by
    have hr : r < S.length := by rw [List.length_cons] at h; omega
    have ih := ew_perm_erase (S := S) (r := r) hr
    show (x :: S).Perm (S[r] :: x :: S.eraseIdx r)
    exact (ih.cons x).trans (List.Perm.swap _ _ _)
theorem ew_rep_enter {qs ls : Nat → Int32} {S L : List Nat} {hd r e : Nat} (R : ew_rep qs ls S L hd) (hl : L.length < 64) (hr : r ≤ S.length) :
    ew_rep (upd (upd qs 12 (nI (S.length + 1))) 14 (nI (L.length + 1))) (upd (upd (ew_sh ls r S.length) r (nI e)) (64 + (hd + L.length) % 64) (nI e)) (S.insertIdx r e) (L ++ [e]) hd := by
  obtain ⟨h12, h13, h14, h64, hL, hp, hS, hR⟩ := R
  have hlen := hp.length_eq
  have hil : (S.insertIdx r e).length = S.length + 1 := List.length_insertIdx_of_le_length hr e
  refine ⟨by rw [hil]; rfl, h13, by rw [List.length_append]; rfl, h64, by rw [List.length_append, List.length_singleton]; omega, ?_, fun i h => ?_, fun i h => ?_⟩
  · exact (List.perm_insertIdx e S hr).trans ((hp.cons e).trans (List.perm_append_singleton e L).symm)
  · rw [hil] at h
    rw [pk_un (by omega), List.getElem_insertIdx]
    by_cases a : i = r
    · subst a
      rw [pk_us, dif_neg (by omega), dif_pos rfl]
    · rw [pk_un a]
      unfold ew_sh
      by_cases b : i < r
      · rw [if_neg (by omega), dif_pos b, hS i (by omega)]
      · rw [if_pos (by omega), dif_neg b, dif_neg a, hS (i - 1) (by omega)]
  · rw [List.length_append, List.length_singleton] at h
    by_cases a : i = L.length
    · subst a
      rw [pk_us, List.getElem_concat_length rfl]
    · rw [pk_un (by omega), pk_un (by omega)]
      unfold ew_sh
      rw [if_neg (by omega), List.getElem_append_left (by omega), hR i (by omega)]
theorem ew_sd_erase {ls : Nat → Int32} {S : List Nat} {r : Nat} (hS : ∀ i (h : i < S.length), ls i = nI S[i]) (hr : r < S.length) : ∀ i (h : i < (S.eraseIdx r).length), ew_sd ls r (S.length - 1) i = nI (S.eraseIdx r)[i] := by
  intro i h
  have hl : (S.eraseIdx r).length = S.length - 1 := List.length_eraseIdx_of_lt hr
  rw [hl] at h
  rw [List.getElem_eraseIdx]
  unfold ew_sd
  by_cases a : i < r
  · rw [if_neg (by omega), dif_pos a, hS i (by omega)]
  · rw [if_pos (by omega), dif_neg a, hS (i + 1) (by omega)]
theorem ew_sd_hi {ls : Nat → Int32} {r k j : Nat} (h : k ≤ j) : ew_sd ls r k j = ls j := if_neg (by omega)
section
variable {f_terms f_conditions f_happened f_waiting f_lost f_time f_all f_oldHappened f_oldLost f_oldTime f_oldAll f_kept : Int32} {a_termOp a_termValue a_askedCode a_code a_oldCode a_askedArg a_arg a_oldArg a_askedLength a_stack a_question a_oldQuestion a_list a_oldList a_event a_oldEvent : Nat → Int32} {qs ls : Nat → Int32} {s e H hd r len ll : Nat} {av bv : Nat → Int32} {fl : Int32} {S L : List Nat} {post : SX → Prop}
theorem xw_enter (hs : s < 6) (he : e < H) (hH : H ≤ 64) (hav : ∀ k, k < H → a_event (4 * k + 1) = av k) (hbv : ∀ k, k < H → a_event (4 * k + 2) = bv k) (hfl : qs 5 = fl)
    (R : ew_rep qs ls S L hd) (hl : L.length < 64) (hm : ∀ k ∈ S, k < H) (hr : r ≤ S.length)
    (h1 : ∀ i (h : i < S.length), i < r → ew_bf fl av bv S[i] e = true) (h2 : ∀ i (h : i < S.length), r ≤ i → ew_bf fl av bv S[i] e = false)
    (hp : ∀ qs' ls', ew_rep qs' ls' (S.insertIdx r e) (L ++ [e]) hd → ew_same qs qs' → post (f_terms, f_conditions, f_happened, f_waiting, f_lost, f_time, f_all, f_oldHappened, f_oldLost, f_oldTime, f_oldAll, f_kept, a_termOp, a_termValue, a_askedCode, a_code, a_oldCode, a_askedArg, a_arg, a_oldArg, a_askedLength, a_stack, (ed_sp a_question (64 * s) 64 qs'), a_oldQuestion, (ed_sp a_list (256 * s) 256 ls'), a_oldList, a_event, a_oldEvent)) : wpX_enter post (f_terms, f_conditions, f_happened, f_waiting, f_lost, f_time, f_all, f_oldHappened, f_oldLost, f_oldTime, f_oldAll, f_kept, a_termOp, a_termValue, a_askedCode, a_code, a_oldCode, a_askedArg, a_arg, a_oldArg, a_askedLength, a_stack, (ed_sp a_question (64 * s) 64 qs), a_oldQuestion, (ed_sp a_list (256 * s) 256 ls), a_oldList, a_event, a_oldEvent) (nI s) (nI e) := by
  have R' := R
  obtain ⟨h12, h13, h14, h64, hL, hpm, hS, hR⟩ := R
  have hlen := hpm.length_eq
  have q0 : (64 : Int32) * nI s = nI (64 * s) := by rw [← pk_mul]; rfl
  have q1 : (256 : Int32) * nI s = nI (256 * s) := by rw [← pk_mul]; rfl
  unfold wpX_enter
  refine nm_r q0 (nm_r q1 (xw_rank (S := S) (r := r) hs he hH hav hbv ((ed_sp_get (by omega)).trans hfl) ((ed_sp_get (by omega)).trans h12) (fun i h => (ed_sp_get (by omega)).trans (hS i h)) (by omega) hm hr h1 h2 ?_))
  simp (disch := omega) only [ed_lit, nI_add, pk_mul, pk_sub, Nat.add_assoc, Nat.add_zero, Nat.zero_add, Nat.reduceAdd, Nat.reduceSub, Nat.reduceMul, Nat.add_sub_cancel, ed_asub, ed_in, nI_clamp, true_and, and_true, ed_sp_get, ed_sp_get0, ed_sp_upd, ed_sp_upd0, forall_eq, forall_const, true_implies, false_implies, not_true_eq_false, not_false_eq_true, and_self, h12]
  refine ⟨S.length + 1, ?_⟩
  have go := xw_enter_loop (e := e) (ls := ls) (r := r) (len := S.length) (ll := L.length) (post := post) (qs := upd qs 12 (nI (S.length + 1))) (f_terms := f_terms) (f_conditions := f_conditions) (f_happened := f_happened) (f_waiting := f_waiting) (f_lost := f_lost) (f_time := f_time) (f_all := f_all) (f_oldHappened := f_oldHappened) (f_oldLost := f_oldLost) (f_oldTime := f_oldTime) (f_oldAll := f_oldAll) (f_kept := f_kept) (a_termOp := a_termOp) (a_termValue := a_termValue) (a_askedCode := a_askedCode) (a_code := a_code) (a_oldCode := a_oldCode) (a_askedArg := a_askedArg) (a_arg := a_arg) (a_oldArg := a_oldArg) (a_askedLength := a_askedLength) (a_stack := a_stack) (a_question := a_question) (a_oldQuestion := a_oldQuestion) (a_list := a_list) (a_oldList := a_oldList) (a_event := a_event) (a_oldEvent := a_oldEvent) hs h64 (by omega) hl h13 h14
    (hp _ _ (ew_rep_enter R' hl hr) (ew_same_t ew_same_12 ew_same_14)) (S.length - r) S.length (by omega) (Nat.le_refl _) (S.length + 1) (by omega)
  rw [ew_sh_len] at go
  exact go
theorem xw_unsort_loop (hs : s < 6) (hl : len < 64) (h12 : qs 12 = nI len) (hp : post (f_terms, f_conditions, f_happened, f_waiting, f_lost, f_time, f_all, f_oldHappened, f_oldLost, f_oldTime, f_oldAll, f_kept, a_termOp, a_termValue, a_askedCode, a_code, a_oldCode, a_askedArg, a_arg, a_oldArg, a_askedLength, a_stack, (ed_sp a_question (64 * s) 64 qs), a_oldQuestion, (ed_sp a_list (256 * s) 256 (ew_sd ls r len)), a_oldList, a_event, a_oldEvent)) :
    ∀ d k, k + d = len → r ≤ k → ∀ n, d < n → wX_unsort_39 post (nI (64 * s)) (nI (256 * s)) f_terms f_conditions f_happened f_waiting f_lost f_time f_all f_oldHappened f_oldLost f_oldTime f_oldAll f_kept n (nI k) a_termOp a_termValue a_askedCode a_code a_oldCode a_askedArg a_arg a_oldArg a_askedLength a_stack (ed_sp a_question (64 * s) 64 qs) a_oldQuestion (ed_sp a_list (256 * s) 256 (ew_sd ls r k)) a_oldList a_event a_oldEvent := by
  intro d
  induction d with
  | zero =>
    intro k hk hkl n hn
    obtain ⟨n, rfl⟩ : ∃ m, n = m + 1 := ⟨n - 1, by omega⟩
    obtain rfl : k = len := by omega
    rw [wX_unsort_39]
    simp (disch := omega) only [ed_lit, nI_add, pk_mul, pk_sub, Nat.add_assoc, Nat.add_zero, Nat.zero_add, Nat.reduceAdd, Nat.reduceSub, Nat.reduceMul, Nat.add_sub_cancel, ed_asub, ed_in, nI_clamp, true_and, and_true, ed_sp_get, ed_sp_get0, ed_sp_upd, ed_sp_upd0, forall_eq, forall_const, true_implies, false_implies, not_true_eq_false, not_false_eq_true, and_self, ed_le, ed_nle, ed_lt, ed_nlt, ed_ne, ed_eq, h12]
    exact hp
  | succ d ih =>
    intro k hk hkl n hn
    obtain ⟨n, rfl⟩ : ∃ m, n = m + 1 := ⟨n - 1, by omega⟩
    rw [wX_unsort_39]
    simp (disch := omega) only [ed_lit, nI_add, pk_mul, pk_sub, Nat.add_assoc, Nat.add_zero, Nat.zero_add, Nat.reduceAdd, Nat.reduceSub, Nat.reduceMul, Nat.add_sub_cancel, ed_asub, ed_in, nI_clamp, true_and, and_true, ed_sp_get, ed_sp_get0, ed_sp_upd, ed_sp_upd0, forall_eq, forall_const, true_implies, false_implies, not_true_eq_false, not_false_eq_true, and_self, ed_le, ed_nle, ed_lt, ed_nlt, ed_ne, ed_eq, h12]
    rw [ew_sd_step hkl]
    exact ih (k + 1) (by omega) (by omega) n (by omega)
theorem xw_unsort (hs : s < 6) (hH : H ≤ 64) (hav : ∀ k, k < H → a_event (4 * k + 1) = av k) (hbv : ∀ k, k < H → a_event (4 * k + 2) = bv k) (hfl : qs 5 = fl)
    (h12 : qs 12 = nI S.length) (h64 : S.length ≤ 64) (hS : ∀ i (h : i < S.length), ls i = nI S[i]) (hm : ∀ k ∈ S, k < H) (hsrt : S.Pairwise (fun a b => ew_bf fl av bv a b = true)) (hr : r < S.length) (hx : S[r] = e)
    (hp : post (f_terms, f_conditions, f_happened, f_waiting, f_lost, f_time, f_all, f_oldHappened, f_oldLost, f_oldTime, f_oldAll, f_kept, a_termOp, a_termValue, a_askedCode, a_code, a_oldCode, a_askedArg, a_arg, a_oldArg, a_askedLength, a_stack, (ed_sp a_question (64 * s) 64 (upd qs 12 (nI (S.length - 1)))), a_oldQuestion, (ed_sp a_list (256 * s) 256 (ew_sd ls r (S.length - 1))), a_oldList, a_event, a_oldEvent)) : wpX_unsort post (f_terms, f_conditions, f_happened, f_waiting, f_lost, f_time, f_all, f_oldHappened, f_oldLost, f_oldTime, f_oldAll, f_kept, a_termOp, a_termValue, a_askedCode, a_code, a_oldCode, a_askedArg, a_arg, a_oldArg, a_askedLength, a_stack, (ed_sp a_question (64 * s) 64 qs), a_oldQuestion, (ed_sp a_list (256 * s) 256 ls), a_oldList, a_event, a_oldEvent) (nI s) (nI e) := by
  have q0 : (64 : Int32) * nI s = nI (64 * s) := by rw [← pk_mul]; rfl
  have q1 : (256 : Int32) * nI s + 0 = nI (256 * s) := by rw [Int32.add_zero, ← pk_mul]; rfl
  have ow := ew_own hsrt hr
  rw [hx] at ow
  have he : e < H := by rw [← hx]; exact hm _ (List.getElem_mem hr)
  unfold wpX_unsort
  refine nm_r q0 (nm_r q1 (xw_rank (S := S) (r := r) hs he hH hav hbv ((ed_sp_get (by omega)).trans hfl) ((ed_sp_get (by omega)).trans h12) (fun i h => (ed_sp_get (by omega)).trans (hS i h)) (by omega) hm (by omega) ow.1 ow.2 ?_))
  simp (disch := omega) only [ed_lit, nI_add, pk_mul, pk_sub, Nat.add_assoc, Nat.add_zero, Nat.zero_add, Nat.reduceAdd, Nat.reduceSub, Nat.reduceMul, Nat.add_sub_cancel, ed_asub, ed_in, nI_clamp, true_and, and_true, ed_sp_get, ed_sp_get0, ed_sp_upd, ed_sp_upd0, forall_eq, forall_const, true_implies, false_implies, not_true_eq_false, not_false_eq_true, and_self, h12]
  refine ⟨S.length + 1, ?_⟩
  have go := xw_unsort_loop (ls := ls) (r := r) (len := S.length - 1) (post := post) (qs := upd qs 12 (nI (S.length - 1))) (f_terms := f_terms) (f_conditions := f_conditions) (f_happened := f_happened) (f_waiting := f_waiting) (f_lost := f_lost) (f_time := f_time) (f_all := f_all) (f_oldHappened := f_oldHappened) (f_oldLost := f_oldLost) (f_oldTime := f_oldTime) (f_oldAll := f_oldAll) (f_kept := f_kept) (a_termOp := a_termOp) (a_termValue := a_termValue) (a_askedCode := a_askedCode) (a_code := a_code) (a_oldCode := a_oldCode) (a_askedArg := a_askedArg) (a_arg := a_arg) (a_oldArg := a_oldArg) (a_askedLength := a_askedLength) (a_stack := a_stack) (a_question := a_question) (a_oldQuestion := a_oldQuestion) (a_list := a_list) (a_oldList := a_oldList) (a_event := a_event) (a_oldEvent := a_oldEvent) hs (by omega) rfl hp (S.length - 1 - r) r (by omega) (Nat.le_refl _) (S.length + 1) (by omega)
  rw [ew_sd_0] at go
  exact go
theorem xw_oldest {post : Int32 → Prop} {x : Nat} (hs : s < 6) (R : ew_rep qs ls S (x :: L) hd) (hp : post (nI x)) : wpX_oldest post (f_terms, f_conditions, f_happened, f_waiting, f_lost, f_time, f_all, f_oldHappened, f_oldLost, f_oldTime, f_oldAll, f_kept, a_termOp, a_termValue, a_askedCode, a_code, a_oldCode, a_askedArg, a_arg, a_oldArg, a_askedLength, a_stack, (ed_sp a_question (64 * s) 64 qs), a_oldQuestion, (ed_sp a_list (256 * s) 256 ls), a_oldList, a_event, a_oldEvent) (nI s) := by
  obtain ⟨h12, h13, h14, h64, hL, hpm, hS, hR⟩ := R
  have h0 : ls (64 + hd) = nI x := by
    have := hR 0 (by rw [List.length_cons]; omega)
    rw [Nat.add_zero, Nat.mod_eq_of_lt h64] at this
    exact this
  unfold wpX_oldest
  simp (disch := omega) only [ed_lit, nI_add, pk_mul, pk_sub, Nat.add_assoc, Nat.add_zero, Nat.zero_add, Nat.reduceAdd, Nat.reduceSub, Nat.reduceMul, Nat.add_sub_cancel, ed_asub, ed_in, nI_clamp, true_and, and_true, ed_sp_get, ed_sp_get0, ed_sp_upd, ed_sp_upd0, forall_eq, forall_const, true_implies, false_implies, not_true_eq_false, not_false_eq_true, and_self, h13, h0]
  exact hp
theorem xw_newest {post : Int32 → Prop} {x : Nat} (hs : s < 6) (R : ew_rep qs ls S L hd) (hx : L.getLast? = some x) (hp : post (nI x)) : wpX_newest post (f_terms, f_conditions, f_happened, f_waiting, f_lost, f_time, f_all, f_oldHappened, f_oldLost, f_oldTime, f_oldAll, f_kept, a_termOp, a_termValue, a_askedCode, a_code, a_oldCode, a_askedArg, a_arg, a_oldArg, a_askedLength, a_stack, (ed_sp a_question (64 * s) 64 qs), a_oldQuestion, (ed_sp a_list (256 * s) 256 ls), a_oldList, a_event, a_oldEvent) (nI s) := by
  obtain ⟨h12, h13, h14, h64, hL, hpm, hS, hR⟩ := R
  have hl : 0 < L.length := by
    cases L with
    | nil => cases hx
    | cons _ _ => rw [List.length_cons]; omega
  have h0 : ls (64 + (hd + (L.length - 1)) % 64) = nI x := by
    rw [hR (L.length - 1) (by omega)]
    rw [List.getLast?_eq_getElem?, List.getElem?_eq_getElem (by omega)] at hx
    rw [Option.some.inj hx]
  unfold wpX_newest
  simp (disch := omega) only [ed_lit, nI_add, pk_mul, pk_sub, Nat.add_assoc, Nat.add_zero, Nat.zero_add, Nat.reduceAdd, Nat.reduceSub, Nat.reduceMul, Nat.add_sub_cancel, ed_asub, ed_in, nI_clamp, true_and, and_true, ed_sp_get, ed_sp_get0, ed_sp_upd, ed_sp_upd0, forall_eq, forall_const, true_implies, false_implies, not_true_eq_false, not_false_eq_true, and_self, h13, h14, ed_and63, h0]
  exact hp
theorem xw_leave {x : Nat} (hs : s < 6) (hH : H ≤ 64) (hav : ∀ k, k < H → a_event (4 * k + 1) = av k) (hbv : ∀ k, k < H → a_event (4 * k + 2) = bv k) (hfl : qs 5 = fl)
    (R : ew_rep qs ls S (x :: L) hd) (hm : ∀ k ∈ S, k < H) (hsrt : S.Pairwise (fun a b => ew_bf fl av bv a b = true))
    (hp : ∀ qs' ls' S' hd', ew_rep qs' ls' S' L hd' → ew_same qs qs' → S'.Pairwise (fun a b => ew_bf fl av bv a b = true) → post (f_terms, f_conditions, f_happened, f_waiting, f_lost, f_time, f_all, f_oldHappened, f_oldLost, f_oldTime, f_oldAll, f_kept, a_termOp, a_termValue, a_askedCode, a_code, a_oldCode, a_askedArg, a_arg, a_oldArg, a_askedLength, a_stack, (ed_sp a_question (64 * s) 64 qs'), a_oldQuestion, (ed_sp a_list (256 * s) 256 ls'), a_oldList, a_event, a_oldEvent)) : wpX_leave post (f_terms, f_conditions, f_happened, f_waiting, f_lost, f_time, f_all, f_oldHappened, f_oldLost, f_oldTime, f_oldAll, f_kept, a_termOp, a_termValue, a_askedCode, a_code, a_oldCode, a_askedArg, a_arg, a_oldArg, a_askedLength, a_stack, (ed_sp a_question (64 * s) 64 qs), a_oldQuestion, (ed_sp a_list (256 * s) 256 ls), a_oldList, a_event, a_oldEvent) (nI s) := by
  have R' := R
  obtain ⟨h12, h13, h14, h64, hL, hpm, hS, hR⟩ := R
  have hlen := hpm.length_eq
  rw [List.length_cons] at hlen hL h14
  have q0 : (64 : Int32) * nI s = nI (64 * s) := by rw [← pk_mul]; rfl
  obtain ⟨r, hr, hx⟩ := List.getElem_of_mem (hpm.symm.subset (List.mem_cons_self (a := x) (l := L)))
  unfold wpX_leave
  refine nm_r q0 (xw_oldest hs R' ?_)
  refine xw_unsort hs hH hav hbv hfl h12 (by omega) hS hm hsrt hr hx ?_
  have g13 : upd qs 12 (nI (S.length - 1)) 13 = nI hd := h13
  have g14 : upd (upd qs 12 (nI (S.length - 1))) 13 (nI ((hd + 1) % 64)) 14 = nI (L.length + 1) := h14
  simp (disch := omega) only [ed_lit, nI_add, pk_mul, pk_sub, Nat.add_assoc, Nat.add_zero, Nat.zero_add, Nat.reduceAdd, Nat.reduceSub, Nat.reduceMul, Nat.add_sub_cancel, ed_asub, ed_in, nI_clamp, true_and, and_true, ed_sp_get, ed_sp_get0, ed_sp_upd, ed_sp_upd0, forall_eq, forall_const, true_implies, false_implies, not_true_eq_false, not_false_eq_true, and_self, g13, ed_and63, g14]
  refine hp _ _ (S.eraseIdx r) ((hd + 1) % 64) ⟨?_, rfl, rfl, by omega, by omega, ?_, ?_, ?_⟩ (ew_same_t ew_same_12 (ew_same_t ew_same_13 ew_same_14)) (List.Pairwise.eraseIdx r hsrt)
  · rw [List.length_eraseIdx_of_lt hr]; rfl
  · have := (ew_perm_erase hr).symm.trans hpm
    rw [hx] at this
    exact this.cons_inv
  · exact ew_sd_erase hS hr
  · intro i h
    rw [ew_sd_hi (by omega)]
    have := hR (i + 1) (by rw [List.length_cons]; omega)
    rw [show 64 + ((hd + 1) % 64 + i) % 64 = 64 + (hd + (i + 1)) % 64 by omega]
    exact this
theorem xw_empty (hs : s < 6) (R : ew_rep qs ls S L hd) (hp : ∀ qs', ew_rep qs' ls [] [] hd → ew_same qs qs' → post (f_terms, f_conditions, f_happened, f_waiting, f_lost, f_time, f_all, f_oldHappened, f_oldLost, f_oldTime, f_oldAll, f_kept, a_termOp, a_termValue, a_askedCode, a_code, a_oldCode, a_askedArg, a_arg, a_oldArg, a_askedLength, a_stack, (ed_sp a_question (64 * s) 64 qs'), a_oldQuestion, (ed_sp a_list (256 * s) 256 ls), a_oldList, a_event, a_oldEvent)) : wpX_empty post (f_terms, f_conditions, f_happened, f_waiting, f_lost, f_time, f_all, f_oldHappened, f_oldLost, f_oldTime, f_oldAll, f_kept, a_termOp, a_termValue, a_askedCode, a_code, a_oldCode, a_askedArg, a_arg, a_oldArg, a_askedLength, a_stack, (ed_sp a_question (64 * s) 64 qs), a_oldQuestion, (ed_sp a_list (256 * s) 256 ls), a_oldList, a_event, a_oldEvent) (nI (64 * s)) := by
  obtain ⟨h12, h13, h14, h64, hL, hpm, hS, hR⟩ := R
  unfold wpX_empty
  simp (disch := omega) only [ed_lit, nI_add, pk_mul, pk_sub, Nat.add_assoc, Nat.add_zero, Nat.zero_add, Nat.reduceAdd, Nat.reduceSub, Nat.reduceMul, Nat.add_sub_cancel, ed_asub, ed_in, nI_clamp, true_and, and_true, ed_sp_get, ed_sp_get0, ed_sp_upd, ed_sp_upd0, forall_eq, forall_const, true_implies, false_implies, not_true_eq_false, not_false_eq_true, and_self]
  exact hp _ ⟨rfl, h13, rfl, h64, by decide, List.Perm.refl _, fun i h => absurd h (by simp), fun i h => absurd h (by simp)⟩ (ew_same_t ew_same_12 ew_same_14)
end
end
section
/-! replace -/
theorem ew_getD {L : List Nat} {i : Nat} (h : i < L.length) : L.getD i 0 = L[i] := by
  rw [List.getD_eq_getElem?_getD, List.getElem?_eq_getElem h]; rfl
section
variable {f_terms f_conditions f_happened f_waiting f_lost f_time f_all f_oldHappened f_oldLost f_oldTime f_oldAll f_kept : Int32} {a_termOp a_termValue a_askedCode a_code a_oldCode a_askedArg a_arg a_oldArg a_askedLength a_stack a_question a_oldQuestion a_list a_oldList a_event a_oldEvent : Nat → Int32} {qs ls : Nat → Int32} {s e H hd r : Nat} {av bv : Nat → Int32} {fl m : Int32} {S L : List Nat} {post : SX → Prop}
theorem xw_rep2 {k0 : Nat} (hs : s < 6) (hd64 : hd < 64) (hL : L.length ≤ 64) (hk0 : k0 < L.length) (h13 : qs 13 = nI hd) (h14 : qs 14 = nI L.length)
    (hp : ∀ ls', (∀ j, j < 64 → ls' j = ls j) → (∀ i (h : i < (L.eraseIdx k0).length), ls' (64 + (hd + i) % 64) = nI (L.eraseIdx k0)[i]) → post (f_terms, f_conditions, f_happened, f_waiting, f_lost, f_time, f_all, f_oldHappened, f_oldLost, f_oldTime, f_oldAll, f_kept, a_termOp, a_termValue, a_askedCode, a_code, a_oldCode, a_askedArg, a_arg, a_oldArg, a_askedLength, a_stack, (ed_sp a_question (64 * s) 64 (upd qs 14 (nI (L.length - 1)))), a_oldQuestion, (ed_sp a_list (256 * s) 256 ls'), a_oldList, a_event, a_oldEvent)) :
    ∀ d k lsk, k + d = L.length → k0 < k → (∀ j, j < 64 → lsk j = ls j) → (∀ i, i < L.length → lsk (64 + (hd + i) % 64) = nI (L.getD (if k0 ≤ i ∧ i + 1 < k then i + 1 else i) 0)) → ∀ n, d < n →
      wX_replace_32 post (nI s) (nI e) (nI (64 * s)) (nI (256 * s + 64)) (nI L.length) n (nI k0) (nI k) f_terms f_conditions f_happened f_waiting f_lost f_time f_all f_oldHappened f_oldLost f_oldTime f_oldAll f_kept a_termOp a_termValue a_askedCode a_code a_oldCode a_askedArg a_arg a_oldArg a_askedLength a_stack (ed_sp a_question (64 * s) 64 qs) a_oldQuestion (ed_sp a_list (256 * s) 256 lsk) a_oldList a_event a_oldEvent := by
  intro d
  induction d with
  | zero =>
    intro k lsk hk hkl g1 g2 n hn
    obtain ⟨n, rfl⟩ : ∃ m, n = m + 1 := ⟨n - 1, by omega⟩
    obtain rfl : k = L.length := by omega
    rw [wX_replace_32]
    simp (disch := omega) only [ed_lit, nI_add, pk_mul, pk_sub, Nat.add_assoc, Nat.add_zero, Nat.zero_add, Nat.reduceAdd, Nat.reduceSub, Nat.reduceMul, Nat.add_sub_cancel, ed_asub, ed_in, nI_clamp, true_and, and_true, ed_sp_get, ed_sp_get0, ed_sp_upd, ed_sp_upd0, forall_eq, forall_const, true_implies, false_implies, not_true_eq_false, not_false_eq_true, and_self, ed_le, ed_nle, ed_lt, ed_nlt, ed_ne, ed_eq, h14]
    refine hp lsk g1 (fun i h => ?_)
    rw [List.length_eraseIdx_of_lt hk0] at h
    rw [g2 i (by omega), List.getElem_eraseIdx]
    by_cases a : i < k0
    · rw [if_neg (by omega), dif_pos a, ew_getD (by omega)]
    · rw [if_pos (by omega), dif_neg a, ew_getD (by omega)]
  | succ d ih =>
    intro k lsk hk hkl g1 g2 n hn
    obtain ⟨n, rfl⟩ : ∃ m, n = m + 1 := ⟨n - 1, by omega⟩
    have gk : lsk (64 + (hd + k) % 64) = nI (L.getD k 0) := by
      rw [g2 k (by omega), if_neg (by omega)]
    rw [wX_replace_32]
    simp (disch := omega) only [ed_lit, nI_add, pk_mul, pk_sub, Nat.add_assoc, Nat.add_zero, Nat.zero_add, Nat.reduceAdd, Nat.reduceSub, Nat.reduceMul, Nat.add_sub_cancel, ed_asub, ed_in, nI_clamp, true_and, and_true, ed_sp_get, ed_sp_get0, ed_sp_upd, ed_sp_upd0, forall_eq, forall_const, true_implies, false_implies, not_true_eq_false, not_false_eq_true, and_self, ed_le, ed_nle, ed_lt, ed_nlt, ed_ne, ed_eq, h13, ed_and63, gk, wX_replace_97]
    refine ih (k + 1) _ (by omega) (by omega) (fun j hj => (pk_un (by omega)).trans (g1 j hj)) (fun i hi => ?_) n (by omega)
    by_cases a : i = k - 1
    · subst a
      rw [pk_us, if_pos (by omega), show k - 1 + 1 = k by omega]
    · rw [pk_un (by omega), g2 i hi]
      by_cases b : k0 ≤ i ∧ i + 1 < k
      · rw [if_pos b, if_pos (by omega)]
      · rw [if_neg b, if_neg (by omega)]
theorem xw_rep1 {K : Nat} (hs : s < 6) (he : e < H) (hH : H ≤ 64) (hav : ∀ k, k < H → a_event (4 * k + 1) = av k) (hm : ∀ k ∈ L, k < H)
    (R : ew_rep qs ls S L hd) (hK : K ≤ L.length) (hne : ∀ i (h : i < L.length), i < K → av L[i] ≠ av e) (hm1 : m < nI 0) (hm0 : ¬ nI 0 ≤ m) :
    ∀ d k, k + d = K → ∀ n, wX_replace_32 post (nI s) (nI e) (nI (64 * s)) (nI (256 * s + 64)) (nI L.length) n m (nI K) f_terms f_conditions f_happened f_waiting f_lost f_time f_all f_oldHappened f_oldLost f_oldTime f_oldAll f_kept a_termOp a_termValue a_askedCode a_code a_oldCode a_askedArg a_arg a_oldArg a_askedLength a_stack (ed_sp a_question (64 * s) 64 qs) a_oldQuestion (ed_sp a_list (256 * s) 256 ls) a_oldList a_event a_oldEvent →
      wX_replace_32 post (nI s) (nI e) (nI (64 * s)) (nI (256 * s + 64)) (nI L.length) (n + d) m (nI k) f_terms f_conditions f_happened f_waiting f_lost f_time f_all f_oldHappened f_oldLost f_oldTime f_oldAll f_kept a_termOp a_termValue a_askedCode a_code a_oldCode a_askedArg a_arg a_oldArg a_askedLength a_stack (ed_sp a_question (64 * s) 64 qs) a_oldQuestion (ed_sp a_list (256 * s) 256 ls) a_oldList a_event a_oldEvent := by
  obtain ⟨h12, h13, h14, h64, hL, hpm, hS, hR⟩ := R
  intro d
  induction d with
  | zero =>
    intro k hk n g
    obtain rfl : k = K := by omega
    exact g
  | succ d ih =>
    intro k hk n g
    have hkl : k < L.length := by omega
    have gk : ls (64 + (hd + k) % 64) = nI L[k] := hR k hkl
    have hlk : L[k] < H := hm _ (List.getElem_mem hkl)
    show wX_replace_32 post (nI s) (nI e) (nI (64 * s)) (nI (256 * s + 64)) (nI L.length) (n + d + 1) m (nI k) f_terms f_conditions f_happened f_waiting f_lost f_time f_all f_oldHappened f_oldLost f_oldTime f_oldAll f_kept a_termOp a_termValue a_askedCode a_code a_oldCode a_askedArg a_arg a_oldArg a_askedLength a_stack (ed_sp a_question (64 * s) 64 qs) a_oldQuestion (ed_sp a_list (256 * s) 256 ls) a_oldList a_event a_oldEvent
    rw [wX_replace_32]
    simp (disch := omega) only [ed_lit, nI_add, pk_mul, pk_sub, Nat.add_assoc, Nat.add_zero, Nat.zero_add, Nat.reduceAdd, Nat.reduceSub, Nat.reduceMul, Nat.add_sub_cancel, ed_asub, ed_in, nI_clamp, true_and, and_true, ed_sp_get, ed_sp_get0, ed_sp_upd, ed_sp_upd0, forall_eq, forall_const, true_implies, false_implies, not_true_eq_false, not_false_eq_true, and_self, ed_le, ed_nle, ed_lt, ed_nlt, ed_ne, ed_eq, h13, ed_and63, gk, hm0]
    refine xw_a (by omega) (xw_a (by omega) ?_)
    rw [hav _ hlk, hav _ he]
    refine br_f (hne k hkl (by omega)) ?_
    simp (disch := omega) only [ed_lit, nI_add, pk_mul, pk_sub, Nat.add_assoc, Nat.add_zero, Nat.zero_add, Nat.reduceAdd, Nat.reduceSub, Nat.reduceMul, Nat.add_sub_cancel, ed_asub, ed_in, nI_clamp, true_and, and_true, ed_sp_get, ed_sp_get0, ed_sp_upd, ed_sp_upd0, forall_eq, forall_const, true_implies, false_implies, not_true_eq_false, not_false_eq_true, and_self, ed_le, ed_nle, ed_lt, ed_nlt, ed_ne, ed_eq, hm1, wX_replace_97]
    exact ih (k + 1) (by omega) n g
theorem xw_replace_none (hs : s < 6) (he : e < H) (hH : H ≤ 64) (hav : ∀ k, k < H → a_event (4 * k + 1) = av k) (hm : ∀ k ∈ L, k < H)
    (R : ew_rep qs ls S L hd) (hne : ∀ i (h : i < L.length), av L[i] ≠ av e) (hp : post (f_terms, f_conditions, f_happened, f_waiting, f_lost, f_time, f_all, f_oldHappened, f_oldLost, f_oldTime, f_oldAll, f_kept, a_termOp, a_termValue, a_askedCode, a_code, a_oldCode, a_askedArg, a_arg, a_oldArg, a_askedLength, a_stack, (ed_sp a_question (64 * s) 64 qs), a_oldQuestion, (ed_sp a_list (256 * s) 256 ls), a_oldList, a_event, a_oldEvent)) : wpX_replace post (f_terms, f_conditions, f_happened, f_waiting, f_lost, f_time, f_all, f_oldHappened, f_oldLost, f_oldTime, f_oldAll, f_kept, a_termOp, a_termValue, a_askedCode, a_code, a_oldCode, a_askedArg, a_arg, a_oldArg, a_askedLength, a_stack, (ed_sp a_question (64 * s) 64 qs), a_oldQuestion, (ed_sp a_list (256 * s) 256 ls), a_oldList, a_event, a_oldEvent) (nI s) (nI e) := by
  have R' := R
  obtain ⟨h12, h13, h14, h64, hL, hpm, hS, hR⟩ := R
  have q0 : (64 : Int32) * nI s = nI (64 * s) := by rw [← pk_mul]; rfl
  have q1 : (256 : Int32) * nI s + 64 = nI (256 * s + 64) := by rw [← nI_add, ← pk_mul]; rfl
  have q2 : nI (64 * s) + 14 = nI (64 * s + 14) := nI_add _ 14
  unfold wpX_replace
  refine nm_r q0 (nm_r q1 ?_)
  rw [q2, nI_clamp (by omega), ed_sp_get (by omega), h14]
  refine ⟨vp_in_nI (by omega) (by omega), nm_e ⟨1 + L.length, ?_⟩⟩
  refine xw_rep1 (av := av) (K := L.length) hs he hH hav hm R' (Nat.le_refl _) (fun i h _ => hne i h) (by decide) (by decide) L.length 0 (by omega) 1 ?_
  exact br_t (Int32.le_refl _) (br_t (by decide) hp)
theorem xw_replace_some {k0 : Nat} (hs : s < 6) (he : e < H) (hH : H ≤ 64) (hav : ∀ k, k < H → a_event (4 * k + 1) = av k) (hbv : ∀ k, k < H → a_event (4 * k + 2) = bv k) (hfl : qs 5 = fl) (hm : ∀ k ∈ L, k < H)
    (R : ew_rep qs ls S L hd) (hsrt : S.Pairwise (fun a b => ew_bf fl av bv a b = true)) (hk0 : k0 < L.length) (hne : ∀ i (h : i < L.length), i < k0 → av L[i] ≠ av e) (hq : av L[k0] = av e)
    (hp : ∀ qs' ls' S', ew_rep qs' ls' S' (L.eraseIdx k0) hd → ew_same qs qs' → S'.Pairwise (fun a b => ew_bf fl av bv a b = true) → post (f_terms, f_conditions, f_happened, f_waiting, f_lost, f_time, f_all, f_oldHappened, f_oldLost, f_oldTime, f_oldAll, f_kept, a_termOp, a_termValue, a_askedCode, a_code, a_oldCode, a_askedArg, a_arg, a_oldArg, a_askedLength, a_stack, (ed_sp a_question (64 * s) 64 qs'), a_oldQuestion, (ed_sp a_list (256 * s) 256 ls'), a_oldList, a_event, a_oldEvent)) : wpX_replace post (f_terms, f_conditions, f_happened, f_waiting, f_lost, f_time, f_all, f_oldHappened, f_oldLost, f_oldTime, f_oldAll, f_kept, a_termOp, a_termValue, a_askedCode, a_code, a_oldCode, a_askedArg, a_arg, a_oldArg, a_askedLength, a_stack, (ed_sp a_question (64 * s) 64 qs), a_oldQuestion, (ed_sp a_list (256 * s) 256 ls), a_oldList, a_event, a_oldEvent) (nI s) (nI e) := by
  have R' := R
  obtain ⟨h12, h13, h14, h64, hL, hpm, hS, hR⟩ := R
  have hlen := hpm.length_eq
  have q0 : (64 : Int32) * nI s = nI (64 * s) := by rw [← pk_mul]; rfl
  have q1 : (256 : Int32) * nI s + 64 = nI (256 * s + 64) := by rw [← nI_add, ← pk_mul]; rfl
  have q2 : nI (64 * s) + 14 = nI (64 * s + 14) := nI_add _ 14
  have hlk : L[k0] < H := hm _ (List.getElem_mem hk0)
  have gk : ls (64 + (hd + k0) % 64) = nI L[k0] := hR k0 hk0
  obtain ⟨r, hr, hx⟩ := List.getElem_of_mem (hpm.symm.subset (List.getElem_mem hk0))
  unfold wpX_replace
  refine nm_r q0 (nm_r q1 ?_)
  rw [q2, nI_clamp (by omega), ed_sp_get (by omega), h14]
  refine ⟨vp_in_nI (by omega) (by omega), nm_e ⟨L.length + 2 + k0, ?_⟩⟩
  refine xw_rep1 (av := av) (K := k0) hs he hH hav hm R' (by omega) hne (by decide) (by decide) k0 0 (by omega) (L.length + 2) ?_
  rw [wX_replace_32]
  have n0 : ¬ nI 0 ≤ (-1 : Int32) := by decide
  generalize (-1 : Int32) = m at n0 ⊢
  simp (disch := omega) only [ed_lit, nI_add, pk_mul, pk_sub, Nat.add_assoc, Nat.add_zero, Nat.zero_add, Nat.reduceAdd, Nat.reduceSub, Nat.reduceMul, Nat.add_sub_cancel, ed_asub, ed_in, nI_clamp, true_and, and_true, ed_sp_get, ed_sp_get0, ed_sp_upd, ed_sp_upd0, forall_eq, forall_const, true_implies, false_implies, not_true_eq_false, not_false_eq_true, and_self, ed_le, ed_nle, ed_lt, ed_nlt, ed_ne, ed_eq, h13, ed_and63, gk, n0]
  refine xw_a (by omega) (xw_a (by omega) ?_)
  rw [hav _ hlk, hav _ he]
  refine br_t hq ?_
  refine xw_unsort hs hH hav hbv hfl h12 (by omega) hS (fun k hk => hm k (hpm.subset hk)) hsrt hr hx ?_
  simp (disch := omega) only [ed_lit, nI_add, pk_mul, pk_sub, Nat.add_assoc, Nat.add_zero, Nat.zero_add, Nat.reduceAdd, Nat.reduceSub, Nat.reduceMul, Nat.add_sub_cancel, ed_asub, ed_in, nI_clamp, true_and, and_true, ed_sp_get, ed_sp_get0, ed_sp_upd, ed_sp_upd0, forall_eq, forall_const, true_implies, false_implies, not_true_eq_false, not_false_eq_true, and_self]
  refine xw_rep2 (qs := upd qs 12 (nI (S.length - 1))) (ls := ew_sd ls r (S.length - 1)) (k0 := k0) hs h64 hL hk0 h13 h14 (fun ls' g1 g2 => ?_) (L.length - (k0 + 1)) (k0 + 1) _ (by omega) (by omega) (fun _ _ => rfl) (fun i hi => ?_) (L.length + 1) (by omega)
  · refine hp _ ls' (S.eraseIdx r) ⟨?_, h13, ?_, h64, ?_, ?_, ?_, g2⟩ (ew_same_t ew_same_12 ew_same_14) (List.Pairwise.eraseIdx r hsrt)
    · rw [List.length_eraseIdx_of_lt hr]; rfl
    · rw [List.length_eraseIdx_of_lt hk0]; rfl
    · rw [List.length_eraseIdx_of_lt hk0]; omega
    · have := (ew_perm_erase hr).symm.trans (hpm.trans (ew_perm_erase hk0))
      rw [hx] at this
      exact this.cons_inv
    · intro i h
      have h' := h
      rw [List.length_eraseIdx_of_lt hr] at h'
      rw [g1 i (by omega)]
      exact ew_sd_erase hS hr i h
  · rw [ew_sd_hi (by omega), if_neg (by omega), ew_getD hi]
    exact hR i hi
/-- where a's are different, the first with this a is the only one -/
theorem ew_filt_none {L : List Nat} {av : Nat → Int32} {e : Nat} (h : ∀ i (h : i < L.length), av L[i] ≠ av e) : L.filter (fun k => !(av e == av k)) = L := by
  rw [List.filter_eq_self]
  intro k hk
  obtain ⟨i, hi, rfl⟩ := List.getElem_of_mem hk
  rw [beq_false_of_ne (fun z => h i hi z.symm)]; rfl
theorem ew_filt_some {av : Nat → Int32} {e : Nat} : ∀ {L : List Nat} {k0 : Nat} (_ : L.Pairwise (fun a b => av a ≠ av b)) (h : k0 < L.length) (_ : av L[k0] = av e), L.filter (fun k => !(av e == av k)) = L.eraseIdx k0
  | x :: L, 0, hp, _, q => by
    rw [List.pairwise_cons] at hp
    have q : av x = av e := q
    rw [List.filter_cons_of_neg (by rw [q]; simp)]
    show _ = L
    rw [List.filter_eq_self]
    intro k hk
    rw [beq_false_of_ne (fun z => hp.1 k hk (q.trans z))]; rfl
  | x :: L, k0 + 1, hp, h, q => by
    have hk : k0 < L.length := by rw [List.length_cons] at h; omega
    rw [List.pairwise_cons] at hp
    have q : av L[k0] = av e := q
    have ne : av e ≠ av x := fun z => hp.1 _ (List.getElem_mem hk) (z.symm.trans q.symm)
    rw [List.filter_cons_of_pos (by rw [beq_false_of_ne ne]; rfl), ew_filt_some hp.2 hk q]
    rfl
end
end
section
/-! totals -/
theorem et_lo (p : Nat → Prop) : ∀ r, p r → ∃ lo, lo ≤ r ∧ (∀ i, lo ≤ i → i ≤ r → p i) ∧ (0 < lo → ¬ p (lo - 1))
  | 0, h => ⟨0, Nat.le_refl 0, fun i _ b => (show i = 0 by omega) ▸ h, fun z => absurd z (by decide)⟩
  | r + 1, h => by
    by_cases c : p r
    · obtain ⟨lo, a, b, d⟩ := et_lo p r c
      refine ⟨lo, by omega, fun i h1 h2 => ?_, d⟩
      by_cases e : i = r + 1
      · rw [e]; exact h
      · exact b i h1 (by omega)
    · exact ⟨r + 1, Nat.le_refl _, fun i h1 h2 => (show i = r + 1 by omega) ▸ h, fun _ => c⟩
theorem et_hi (p : Nat → Prop) (n : Nat) : ∀ d r, r + d + 1 = n → p r → ∃ hi, r < hi ∧ hi ≤ n ∧ (∀ i, r ≤ i → i < hi → p i) ∧ (hi < n → ¬ p hi) := by
  intro d
  induction d with
  | zero => exact fun r h hp => ⟨n, by omega, Nat.le_refl n, fun i a b => (show i = r by omega) ▸ hp, fun z => absurd z (by omega)⟩
  | succ d ih =>
    intro r h hp
    by_cases c : p (r + 1)
    · obtain ⟨hi, a, b, e, f⟩ := ih (r + 1) (by omega) c
      refine ⟨hi, by omega, b, fun i h1 h2 => ?_, f⟩
      by_cases g : i = r
      · rw [g]; exact hp
      · exact e i (by omega) h2
    · exact ⟨r + 1, by omega, by omega, fun i h1 h2 => (show i = r by omega) ▸ hp, fun _ => c⟩
theorem et_seg {p : Nat → Bool} : ∀ {S : List Nat} {lo hi : Nat}, (∀ i (h : i < S.length), p S[i] = decide (lo ≤ i ∧ i < hi)) → S.filter p = (S.drop lo).take (hi - lo)
  | [], lo, hi, _ => by simp
  | x :: S, lo, hi, h => by
    have h0 : p x = decide (lo ≤ 0 ∧ 0 < hi) := h 0 (by rw [List.length_cons]; omega)
    have hS : ∀ i (h : i < S.length), p S[i] = decide (lo ≤ i + 1 ∧ i + 1 < hi) := fun i hi2 => h (i + 1) (by rw [List.length_cons]; omega)
    cases lo with
    | zero =>
      cases hi with
      | zero =>
        have ih := et_seg (p := p) (S := S) (lo := 0) (hi := 0) (fun i h => by rw [hS i h]; simp)
        rw [List.filter_cons_of_neg (by rw [h0]; simp), ih]
        simp
      | succ hi =>
        have ih := et_seg (p := p) (S := S) (lo := 0) (hi := hi) (fun i h => by rw [hS i h]; simp)
        rw [List.filter_cons_of_pos (by rw [h0]; simp), ih]
        simp
    | succ lo =>
      have ih := et_seg (p := p) (S := S) (lo := lo) (hi := hi - 1) (fun i h => by
        rw [hS i h]
        by_cases c : lo + 1 ≤ i + 1 ∧ i + 1 < hi
        · rw [decide_eq_true c, decide_eq_true (by omega)]
        · rw [decide_eq_false c, decide_eq_false (by omega)])
      rw [List.filter_cons_of_neg (by rw [h0]; simp), ih, List.drop_succ_cons, show hi - 1 - lo = hi - (lo + 1) by omega]
section
variable {f_terms f_conditions f_happened f_waiting f_lost f_time f_all f_oldHappened f_oldLost f_oldTime f_oldAll f_kept : Int32} {a_termOp a_termValue a_askedCode a_code a_oldCode a_askedArg a_arg a_oldArg a_askedLength a_stack a_question a_oldQuestion a_list a_oldList a_event a_oldEvent : Nat → Int32} {s e H lo hi r how : Nat} {av bv : Nat → Int32} {fl x3 : Int32} {S : List Nat} {post : Int32 → Prop}
theorem xw_sums_loop {b : Nat} {V : List Int32} {ks : Nat → Nat} (hb : b + V.length ≤ 1536) (hk : ∀ i, i < V.length → a_list (b + i) = nI (ks i) ∧ ks i < 64 ∧ a_event (4 * ks i + 2) = V.getD i 0)
    (hp : post (if x3 = 0 then nI (ed_df V V.length) else ed_sm V)) :
    ∀ d i, i + d = V.length → ∀ n, d < n → wX_sums_9 post (nI b) (nI (b + V.length)) x3 f_terms f_conditions f_happened f_waiting f_lost f_time f_all f_oldHappened f_oldLost f_oldTime f_oldAll f_kept a_termOp a_termValue a_askedCode a_code a_oldCode a_askedArg a_arg a_oldArg a_askedLength a_stack a_question a_oldQuestion a_list a_oldList a_event a_oldEvent n (ed_sm (V.take i)) (nI (ed_df V i)) (nI (b + i)) := by
  intro d
  induction d with
  | zero =>
    intro i hi n hn
    obtain ⟨n, rfl⟩ : ∃ m, n = m + 1 := ⟨n - 1, by omega⟩
    obtain rfl : i = V.length := by omega
    rw [List.take_length]
    refine br_t (Int32.le_refl _) ?_
    by_cases c : x3 = 0
    · rw [if_pos c] at hp; exact br_t c hp
    · rw [if_neg c] at hp; exact br_f c hp
  | succ d ih =>
    intro i hi n hn
    obtain ⟨n, rfl⟩ : ∃ m, n = m + 1 := ⟨n - 1, by omega⟩
    obtain ⟨k1, k2, k3⟩ := hk i (by omega)
    have go := ih (i + 1) (by omega) n (by omega)
    have et : ed_sm (V.take (i + 1)) = ed_sm (V.take i) + V.getD i 0 := by
      rw [List.take_add_one, List.getElem?_eq_getElem (by omega), Option.toList_some, ed_sm_app, List.getD_eq_getElem?_getD, List.getElem?_eq_getElem (by omega)]
      rfl
    rw [et, show ed_df V (i + 1) = ed_df V i + (if i = 0 ∨ V.getD i 0 ≠ V.getD (i - 1) 0 then 1 else 0) from rfl] at go
    rw [wX_sums_9]
    refine br_f (nI_ge (by omega) (by omega)) ⟨vp_in_nI (by omega) (by omega), ?_⟩
    rw [nI_clamp (by omega), k1]
    refine xw_b k2 ?_
    rw [k3]
    refine nm_e (br_c (fun c => ?_) (fun c => ?_))
    · have c : i = 0 := by
        have := (nI_eq (by omega) (by omega)).mp c
        omega
      rw [if_pos (Or.inl c)] at go
      exact nm_r (nI_1 _) (nm_r (nI_1 _) go)
    · have c : i ≠ 0 := fun z => c (by rw [z, Nat.add_zero])
      obtain ⟨j1, j2, j3⟩ := hk (i - 1) (by omega)
      have q : nI (b + i) - 1 = nI (b + (i - 1)) := by
        rw [show b + i = (b + (i - 1)) + 1 by omega, nI_pred]
      rw [q, nI_clamp (by omega), j1]
      refine ⟨vp_in_nI (by omega) (by omega), xw_b j2 ?_⟩
      rw [j3]
      refine br_c (fun g => ?_) (fun g => ?_)
      · rw [if_neg (fun z => z.elim c (fun y => y g))] at go
        exact nm_r (nI_1 _) go
      · rw [if_pos (Or.inr g)] at go
        exact nm_r (nI_1 _) (nm_r (nI_1 _) go)
end
end
section
/-! totals: the walk -/
section
variable {f_terms f_conditions f_happened f_waiting f_lost f_time f_all f_oldHappened f_oldLost f_oldTime f_oldAll f_kept : Int32} {a_termOp a_termValue a_askedCode a_code a_oldCode a_askedArg a_arg a_oldArg a_askedLength a_stack a_question a_oldQuestion a_list a_oldList a_event a_oldEvent : Nat → Int32} {s e H lo hi r how : Nat} {av bv : Nat → Int32} {fl : Int32} {S : List Nat} {post : Int32 → Prop}
theorem xw_total_225 {V : List Int32} (hs : s < 6) (h64 : S.length ≤ 64) (hH : H ≤ 64) (hbv : ∀ k, k < H → a_event (4 * k + 2) = bv k) (h4 : a_question (64 * s + 4) = nI how)
    (hS : ∀ i (h : i < S.length), a_list (256 * s + i) = nI S[i]) (hm : ∀ k ∈ S, k < H) (hlh : lo < hi) (hhi : hi ≤ S.length) (hl : V.length = hi - lo) (hV : ∀ i, i < hi - lo → V.getD i 0 = bv (S.getD (lo + i) 0)) (hw : how = 1 ∨ how = 4)
    (hp : post (ed_tot how V)) : wX_total_225 post (nI (64 * s)) (nI (256 * s)) (nI lo) (nI hi) f_terms f_conditions f_happened f_waiting f_lost f_time f_all f_oldHappened f_oldLost f_oldTime f_oldAll f_kept a_termOp a_termValue a_askedCode a_code a_oldCode a_askedArg a_arg a_oldArg a_askedLength a_stack a_question a_oldQuestion a_list a_oldList a_event a_oldEvent := by
  have q4 : nI (64 * s) + 4 = nI (64 * s + 4) := nI_add _ 4
  have hk : ∀ i, i < V.length → a_list (256 * s + lo + i) = nI (S.getD (lo + i) 0) ∧ S.getD (lo + i) 0 < 64 ∧ a_event (4 * S.getD (lo + i) 0 + 2) = V.getD i 0 := by
    intro i hi2
    have hb : lo + i < S.length := by omega
    have hlt : S[lo + i] < H := hm _ (List.getElem_mem hb)
    rw [hV i (by omega), ew_getD hb, hbv _ hlt, Nat.add_assoc, hS _ hb]
    exact ⟨rfl, by omega, rfl⟩
  have e1 : nI (256 * s) + nI hi = nI (256 * s + lo + V.length) := by rw [nI_add]; exact congrArg nI (by omega)
  have e2 : nI (256 * s) + nI lo = nI (256 * s + lo) := nI_add _ _
  unfold wX_total_225
  rw [q4, nI_clamp (by omega), h4, e1, e2]
  refine ⟨vp_in_nI (by omega) (by omega), ?_⟩
  rcases hw with rfl | rfl
  · refine br_t rfl ?_
    exact ⟨V.length + 1, xw_sums_loop (b := 256 * s + lo) (V := V) (ks := fun i => S.getD (lo + i) 0) (by omega) hk hp V.length 0 (by omega) (V.length + 1) (by omega)⟩
  · refine br_f (by decide) ?_
    exact ⟨V.length + 1, xw_sums_loop (b := 256 * s + lo) (V := V) (ks := fun i => S.getD (lo + i) 0) (by omega) hk hp V.length 0 (by omega) (V.length + 1) (by omega)⟩
theorem xw_total_113 {V : List Int32} (hs : s < 6) (h64 : S.length ≤ 64) (hH : H ≤ 64) (hbv : ∀ k, k < H → a_event (4 * k + 2) = bv k) (h4 : a_question (64 * s + 4) = nI how) (hw : how ≤ 5)
    (hS : ∀ i (h : i < S.length), a_list (256 * s + i) = nI S[i]) (hm : ∀ k ∈ S, k < H) (hlh : lo < hi) (hhi : hi ≤ S.length) (hl : V.length = hi - lo) (hV : ∀ i, i < hi - lo → V.getD i 0 = bv (S.getD (lo + i) 0))
    (hp : post (ed_tot how V)) : wX_total_113 post (nI (64 * s)) (nI (256 * s)) (nI lo) (nI hi) f_terms f_conditions f_happened f_waiting f_lost f_time f_all f_oldHappened f_oldLost f_oldTime f_oldAll f_kept a_termOp a_termValue a_askedCode a_code a_oldCode a_askedArg a_arg a_oldArg a_askedLength a_stack a_question a_oldQuestion a_list a_oldList a_event a_oldEvent := by
  have q4 : nI (64 * s) + 4 = nI (64 * s + 4) := nI_add _ 4
  have rd : ∀ i, i < hi - lo → vp_in (nI (256 * s + (lo + i))) 1536 ∧ (post (V.getD i 0) → wpX_b (fun r => post r) (f_terms, f_conditions, f_happened, f_waiting, f_lost, f_time, f_all, f_oldHappened, f_oldLost, f_oldTime, f_oldAll, f_kept, a_termOp, a_termValue, a_askedCode, a_code, a_oldCode, a_askedArg, a_arg, a_oldArg, a_askedLength, a_stack, a_question, a_oldQuestion, a_list, a_oldList, a_event, a_oldEvent) (a_list (nI (256 * s + (lo + i))).toNatClampNeg)) := by
    intro i hi2
    have hb : lo + i < S.length := by omega
    have hlt : S[lo + i] < H := hm _ (List.getElem_mem hb)
    refine ⟨vp_in_nI (by omega) (by omega), fun h => ?_⟩
    rw [nI_clamp (by omega), hS _ hb]
    refine xw_b (by omega) ?_
    rw [hbv _ hlt]
    rw [hV i hi2, ew_getD hb] at h
    exact h
  unfold wX_total_113
  refine nm_r (pk_sub (by omega)) ?_
  rw [q4, nI_clamp (by omega), h4]
  refine ⟨vp_in_nI (by omega) (by omega), nm_e ?_⟩
  rcases (show how = 0 ∨ how = 1 ∨ how = 2 ∨ how = 3 ∨ how = 4 ∨ how = 5 by omega) with rfl | rfl | rfl | rfl | rfl | rfl
  · refine br_f (by decide) (br_f (by decide) (br_t rfl ?_))
    rw [← hl]
    exact hp
  · exact br_f (by decide) (br_f (by decide) (br_f (by decide) (br_t rfl (xw_total_225 hs h64 hH hbv h4 hS hm hlh hhi hl hV (Or.inl rfl) hp))))
  · refine br_f (by decide) (br_f (by decide) (br_f (by decide) (br_f (by decide) (br_t rfl ?_))))
    obtain ⟨r1, r2⟩ := rd 0 (by omega)
    rw [show nI (256 * s) + nI lo = nI (256 * s + (lo + 0)) from nI_add _ _]
    exact ⟨r1, r2 hp⟩
  · refine br_f (by decide) (br_f (by decide) (br_f (by decide) (br_f (by decide) (br_f (by decide) (br_t rfl ?_)))))
    obtain ⟨r1, r2⟩ := rd (hi - lo - 1) (by omega)
    have q : nI (256 * s) + nI hi - 1 = nI (256 * s + (lo + (hi - lo - 1))) := by
      rw [nI_add, show 256 * s + hi = (256 * s + (lo + (hi - lo - 1))) + 1 by omega, nI_pred]
    rw [q]
    refine ⟨r1, r2 ?_⟩
    rw [← hl]
    exact hp
  · exact br_f (by decide) (br_f (by decide) (br_f (by decide) (br_f (by decide) (br_f (by decide) (br_f (by decide) (br_t rfl (xw_total_225 hs h64 hH hbv h4 hS hm hlh hhi hl hV (Or.inr rfl) hp)))))))
  · refine br_f (by decide) (br_f (by decide) (br_f (by decide) (br_f (by decide) (br_f (by decide) (br_f (by decide) (br_f (by decide) (br_t rfl ?_)))))))
    obtain ⟨r1, r2⟩ := rd ((hi - lo - 1) / 2) (by omega)
    have q : nI (256 * s) + nI lo + (nI (hi - lo) - 1) >>> ((1 : Int32) &&& 31) = nI (256 * s + (lo + (hi - lo - 1) / 2)) := by
      rw [show hi - lo = (hi - lo - 1) + 1 by omega, nI_pred, ed_shr1 (by omega), nI_add, nI_add, Nat.add_assoc]
      rfl
    rw [q]
    refine ⟨r1, r2 ?_⟩
    rw [← hl]
    exact hp
theorem xw_total_73 (hs : s < 6) (h64 : S.length ≤ 64) (hH : H ≤ 64) (hav : ∀ k, k < H → a_event (4 * k + 1) = av k) (hfl : a_question (64 * s + 5) = fl) (h12 : a_question (64 * s + 12) = nI S.length)
    (hS : ∀ i (h : i < S.length), a_list (256 * s + i) = nI S[i]) (hm : ∀ k ∈ S, k < H) (hhi : hi ≤ S.length)
    {g : Int32} (h2 : ∀ i, i < hi → r ≤ i → ew_gp fl av (S.getD i 0) = g) (h3 : hi < S.length → ew_gp fl av (S.getD hi 0) ≠ g)
    (hp : wX_total_113 post (nI (64 * s)) (nI (256 * s)) (nI lo) (nI hi) f_terms f_conditions f_happened f_waiting f_lost f_time f_all f_oldHappened f_oldLost f_oldTime f_oldAll f_kept a_termOp a_termValue a_askedCode a_code a_oldCode a_askedArg a_arg a_oldArg a_askedLength a_stack a_question a_oldQuestion a_list a_oldList a_event a_oldEvent) :
    ∀ d k, k + d = hi → r ≤ k → ∀ n, d < n → wX_total_73 post (nI (64 * s)) (nI (256 * s)) (nI lo) g f_terms f_conditions f_happened f_waiting f_lost f_time f_all f_oldHappened f_oldLost f_oldTime f_oldAll f_kept a_termOp a_termValue a_askedCode a_code a_oldCode a_askedArg a_arg a_oldArg a_askedLength a_stack a_question a_oldQuestion a_list a_oldList a_event a_oldEvent n (nI k) := by
  intro d
  have q12 : nI (64 * s) + 12 = nI (64 * s + 12) := nI_add _ 12
  induction d with
  | zero =>
    intro k hk hr n hn
    obtain ⟨n, rfl⟩ : ∃ m, n = m + 1 := ⟨n - 1, by omega⟩
    obtain rfl : k = hi := by omega
    rw [wX_total_73, q12, nI_clamp (by omega), h12]
    refine ⟨vp_in_nI (by omega) (by omega), ?_⟩
    by_cases c : S.length ≤ k
    · exact br_t (nI_le c (by omega)) hp
    · have hb : k < S.length := by omega
      refine br_f (nI_ge hb (by omega)) ?_
      rw [show nI (256 * s) + nI k = nI (256 * s + k) from nI_add _ _, nI_clamp (by omega), hS _ hb]
      refine ⟨vp_in_nI (by omega) (by omega), xw_group hs (hm _ (List.getElem_mem hb)) hH hav hfl ?_⟩
      have := h3 hb
      rw [ew_getD hb] at this
      exact br_f this hp
  | succ d ih =>
    intro k hk hr n hn
    obtain ⟨n, rfl⟩ : ∃ m, n = m + 1 := ⟨n - 1, by omega⟩
    have hb : k < S.length := by omega
    rw [wX_total_73, q12, nI_clamp (by omega), h12]
    refine ⟨vp_in_nI (by omega) (by omega), br_f (nI_ge hb (by omega)) ?_⟩
    rw [show nI (256 * s) + nI k = nI (256 * s + k) from nI_add _ _, nI_clamp (by omega), hS _ hb]
    refine ⟨vp_in_nI (by omega) (by omega), xw_group hs (hm _ (List.getElem_mem hb)) hH hav hfl ?_⟩
    have := h2 k (by omega) hr
    rw [ew_getD hb] at this
    exact br_t this (nm_r (nI_1 _) (ih (k + 1) (by omega) (by omega) n (by omega)))
theorem xw_total_40 (hs : s < 6) (h64 : S.length ≤ 64) (hH : H ≤ 64) (hav : ∀ k, k < H → a_event (4 * k + 1) = av k) (hfl : a_question (64 * s + 5) = fl)
    (hS : ∀ i (h : i < S.length), a_list (256 * s + i) = nI S[i]) (hm : ∀ k ∈ S, k < H) (hr : r < S.length)
    {g : Int32} {x7 : Int32} (h2 : ∀ i, lo ≤ i → i ≤ r → ew_gp fl av (S.getD i 0) = g) (h3 : 0 < lo → ew_gp fl av (S.getD (lo - 1) 0) ≠ g)
    (hp : ∃ n, wX_total_73 post (nI (64 * s)) (nI (256 * s)) (nI lo) g f_terms f_conditions f_happened f_waiting f_lost f_time f_all f_oldHappened f_oldLost f_oldTime f_oldAll f_kept a_termOp a_termValue a_askedCode a_code a_oldCode a_askedArg a_arg a_oldArg a_askedLength a_stack a_question a_oldQuestion a_list a_oldList a_event a_oldEvent n x7) :
    ∀ d k, lo + d = k → k ≤ r → ∀ n, d < n → wX_total_40 post (nI (64 * s)) (nI (256 * s)) x7 g f_terms f_conditions f_happened f_waiting f_lost f_time f_all f_oldHappened f_oldLost f_oldTime f_oldAll f_kept a_termOp a_termValue a_askedCode a_code a_oldCode a_askedArg a_arg a_oldArg a_askedLength a_stack a_question a_oldQuestion a_list a_oldList a_event a_oldEvent n (nI k) := by
  intro d
  induction d with
  | zero =>
    intro k hk hr n hn
    obtain ⟨n, rfl⟩ : ∃ m, n = m + 1 := ⟨n - 1, by omega⟩
    obtain rfl : lo = k := by omega
    rw [wX_total_40]
    by_cases c : lo = 0
    · subst c
      exact br_t (Int32.le_refl _) hp
    · obtain ⟨j, rfl⟩ : ∃ j, lo = j + 1 := ⟨lo - 1, by omega⟩
      have hb : j < S.length := by omega
      refine br_f (nI_ge (a := 0) (by omega) (by omega)) ?_
      rw [show nI (256 * s) + nI (j + 1) - 1 = nI (256 * s + j) by rw [nI_add, ← Nat.add_assoc, nI_pred], nI_clamp (by omega), hS _ hb]
      refine ⟨vp_in_nI (by omega) (by omega), xw_group hs (hm _ (List.getElem_mem hb)) hH hav hfl ?_⟩
      have := h3 (by omega)
      rw [Nat.add_sub_cancel, ew_getD hb] at this
      exact br_f this hp
  | succ d ih =>
    intro k hk hr n hn
    obtain ⟨n, rfl⟩ : ∃ m, n = m + 1 := ⟨n - 1, by omega⟩
    obtain ⟨j, rfl⟩ : ∃ j, k = j + 1 := ⟨k - 1, by omega⟩
    have hb : j < S.length := by omega
    rw [wX_total_40]
    refine br_f (nI_ge (a := 0) (by omega) (by omega)) ?_
    rw [show nI (256 * s) + nI (j + 1) - 1 = nI (256 * s + j) by rw [nI_add, ← Nat.add_assoc, nI_pred], nI_clamp (by omega), hS _ hb]
    refine ⟨vp_in_nI (by omega) (by omega), xw_group hs (hm _ (List.getElem_mem hb)) hH hav hfl ?_⟩
    have := h2 j (by omega) (by omega)
    rw [ew_getD hb] at this
    exact br_t this (nm_r (pk_m1 j) (ih j (by omega) (by omega) n (by omega)))
theorem xw_total (hs : s < 6) (h64 : S.length ≤ 64) (hH : H ≤ 64) (hav : ∀ k, k < H → a_event (4 * k + 1) = av k) (hbv : ∀ k, k < H → a_event (4 * k + 2) = bv k) (h4 : a_question (64 * s + 4) = nI how) (hw : how ≤ 5)
    (hfl : a_question (64 * s + 5) = fl) (h12 : a_question (64 * s + 12) = nI S.length) (hS : ∀ i (h : i < S.length), a_list (256 * s + i) = nI S[i]) (hm : ∀ k ∈ S, k < H)
    (hsrt : S.Pairwise (fun a b => ew_bf fl av bv a b = true)) (heS : e ∈ S)
    (hp : post (ed_tot how ((S.filter (fun k => ew_gp fl av k == ew_gp fl av e)).map bv))) : wpX_total post (f_terms, f_conditions, f_happened, f_waiting, f_lost, f_time, f_all, f_oldHappened, f_oldLost, f_oldTime, f_oldAll, f_kept, a_termOp, a_termValue, a_askedCode, a_code, a_oldCode, a_askedArg, a_arg, a_oldArg, a_askedLength, a_stack, a_question, a_oldQuestion, a_list, a_oldList, a_event, a_oldEvent) (nI s) (nI e) := by
  obtain ⟨r, hr, hx⟩ := List.getElem_of_mem heS
  have ow := ew_own hsrt hr
  rw [hx] at ow
  have he := hm e heS
  have pr : ew_gp fl av (S.getD r 0) = ew_gp fl av e := by rw [ew_getD hr, hx]
  obtain ⟨lo, l1, l2, l3⟩ := et_lo (fun i => ew_gp fl av (S.getD i 0) = ew_gp fl av e) r pr
  obtain ⟨hi, g1, g2, g3, g4⟩ := et_hi (fun i => ew_gp fl av (S.getD i 0) = ew_gp fl av e) S.length (S.length - 1 - r) r (by omega) pr
  have mono : ∀ i j, i < S.length → j < S.length → i ≤ j → (ew_gp fl av (S.getD i 0)).toInt ≤ (ew_gp fl av (S.getD j 0)).toInt := by
    intro i j h1 h2 h3
    by_cases c : i = j
    · subst c; omega
    · have := List.pairwise_iff_getElem.mp hsrt i j h1 h2 (by omega)
      rw [ew_bf_iff] at this
      rw [ew_getD h1, ew_getD h2]
      simp only [Int32.lt_iff_toInt_lt, ← Int32.toInt_inj] at this
      omega
  have seg : S.filter (fun k => ew_gp fl av k == ew_gp fl av e) = (S.drop lo).take (hi - lo) := by
    refine et_seg (fun i h => ?_)
    have hg := ew_getD h
    by_cases c : lo ≤ i ∧ i < hi
    · rw [decide_eq_true c, beq_iff_eq, ← hg]
      by_cases d : i ≤ r
      · exact l2 i c.1 d
      · exact g3 i (by omega) c.2
    · rw [decide_eq_false c, beq_eq_false_iff_ne, ← hg]
      intro z
      by_cases d : i < lo
      · refine l3 (by omega) ?_
        have m1 := mono i (lo - 1) h (by omega) (by omega)
        have m2 := mono (lo - 1) r (by omega) hr (by omega)
        rw [z] at m1
        rw [pr] at m2
        exact Int32.toInt_inj.mp (by omega)
      · refine g4 (by omega) ?_
        have m1 := mono hi i (by omega) h (by omega)
        have m2 := mono r hi hr (by omega) (by omega)
        rw [z] at m1
        rw [pr] at m2
        exact Int32.toInt_inj.mp (by omega)
  rw [seg] at hp
  have hl : (((S.drop lo).take (hi - lo)).map bv).length = hi - lo := by
    rw [List.length_map, List.length_take, List.length_drop]; omega
  have hV : ∀ i, i < hi - lo → (((S.drop lo).take (hi - lo)).map bv).getD i 0 = bv (S.getD (lo + i) 0) := by
    intro i h
    rw [ew_getD (by omega), List.getD_eq_getElem?_getD, List.getElem?_eq_getElem (by omega), Option.getD_some, List.getElem_map, List.getElem_take, List.getElem_drop]
  have q0 : (64 : Int32) * nI s = nI (64 * s) := by rw [← pk_mul]; rfl
  have q1 : (256 : Int32) * nI s + 0 = nI (256 * s) := by rw [Int32.add_zero, ← pk_mul]; rfl
  unfold wpX_total
  refine nm_r q0 (nm_r q1 (xw_rank (S := S) (r := r) hs he hH hav hbv hfl h12 hS h64 hm (by omega) ow.1 ow.2 (nm_r (nI_1 _) (xw_group hs he hH hav hfl ⟨r + 1, ?_⟩))))
  refine xw_total_40 (lo := lo) (r := r) hs h64 hH hav hfl hS hm hr l2 l3 ⟨S.length + 1, ?_⟩ (r - lo) r (by omega) (Nat.le_refl _) (r + 1) (by omega)
  refine xw_total_73 (hi := hi) (r := r) hs h64 hH hav hfl h12 hS hm g2 (fun i a b => g3 i b a) g4 ?_ (hi - (r + 1)) (r + 1) (by omega) (by omega) (S.length + 1) (by omega)
  exact xw_total_113 hs h64 hH hbv h4 hw hS hm (by omega) g2 hl hV hp
end
end
section
/-! member: what a window does with a member -/
theorem ew_least (P : Nat → Prop) (h : ∃ k, P k) : ∃ k, P k ∧ ∀ j, j < k → ¬ P j := by
  obtain ⟨k, hk⟩ := h
  induction k using Nat.strongRecOn with
  | ind k ih =>
    by_cases e : ∃ j, j < k ∧ P j
    · obtain ⟨j, hj, pj⟩ := e
      exact ih j hj pj
    · exact ⟨k, hk, fun j hj pj => e ⟨j, hj, pj⟩⟩
def ew_inv (M : Nat → Bool) (tm : Nat → Nat) (av bv : Nat → Int32) (fl : Int32) (view N F H T : Nat) (qs ls : Nat → Int32) : Prop :=
  ∃ S L hd, ew_rep qs ls S L hd ∧ S.Pairwise (fun a b => ew_bf fl av bv a b = true) ∧ ed_wi M tm av view N F H T L
theorem ew_tot_eq {fl : Int32} {av bv : Nat → Int32} {S L : List Nat} {e : Nat} (hp : S.Perm L) (hs : S.Pairwise (fun a b => ew_bf fl av bv a b = true)) :
    (S.filter (fun k => ew_gp fl av k == ew_gp fl av e)).map bv = ed_srt ((L.filter (fun k => ew_gp fl av k == ew_gp fl av e)).map bv) := by
  refine (ed_srt_eq ((hp.filter _).map bv) ?_).symm
  rw [List.pairwise_map]
  have h1 : (S.filter (fun k => ew_gp fl av k == ew_gp fl av e)).Pairwise (fun a b => ew_bf fl av bv a b = true) := hs.filter _
  refine List.Pairwise.imp_of_mem (fun {a b} ha hb h => ?_) h1
  have ga := (List.mem_filter.mp ha).2
  have gb := (List.mem_filter.mp hb).2
  rw [beq_iff_eq] at ga gb
  rw [ew_bf_iff, ga, gb] at h
  rcases h with h | ⟨_, h | h⟩
  · exact absurd h Int32.lt_irrefl
  · exact Int32.le_of_lt h
  · rw [h.1]; exact Int32.le_refl _
/-- the kept list and the view once e has come in -/
def ew_stp (M : Nat → Bool) (tm : Nat → Nat) (av : Nat → Int32) (view N F e T : Nat) (L : List Nat) : Prop :=
  (view ≠ 3 → L ++ [e] = ed_vl M tm av view N F e ∧ ed_wi M tm av view N F (e + 1) T (L ++ [e]))
  ∧ (view = 3 → (L.length + 1 < N → (ed_ms M F (e + 1)).length % N ≠ 0 ∧ ed_wi M tm av 3 N F (e + 1) T (L ++ [e])) ∧ (¬ L.length + 1 < N → (ed_ms M F (e + 1)).length % N = 0 ∧ L ++ [e] = ed_vl M tm av 3 N F e ∧ ed_wi M tm av 3 N F (e + 1) T []))
section
variable {f_terms f_conditions f_happened f_waiting f_lost f_time f_all f_oldHappened f_oldLost f_oldTime f_oldAll f_kept : Int32} {a_termOp a_termValue a_askedCode a_code a_oldCode a_askedArg a_arg a_oldArg a_askedLength a_stack a_question a_oldQuestion a_list a_oldList a_event a_oldEvent : Nat → Int32} {qs ls : Nat → Int32} {s e hd view N F T how : Nat} {M : Nat → Bool} {tm : Nat → Nat} {av bv : Nat → Int32} {fl x5 : Int32} {S L : List Nat} {post : SX → Prop}
theorem xw_member_159 (hs : s < 6) (he : e < 64) (hav : ∀ k, k < e + 1 → a_event (4 * k + 1) = av k) (hbv : ∀ k, k < e + 1 → a_event (4 * k + 2) = bv k) (hfl : qs 5 = fl) (h4 : qs 4 = nI how) (hw : how ≤ 5) (hv : view ≤ 5)
    (hN : view = 3 → x5 = nI N ∧ 1 ≤ N ∧ N ≤ 16) (R : ew_rep qs ls S L hd) (hsrt : S.Pairwise (fun a b => ew_bf fl av bv a b = true)) (hll : L.length < 64) (hm : ∀ k ∈ L, k < e) (st : ew_stp M tm av view N F e T L)
    (hp0 : ∀ qs' ls', (view = 3 ∧ (ed_ms M F (e + 1)).length % N ≠ 0) → ew_inv M tm av bv fl view N F (e + 1) T qs' ls' → ew_same qs qs' → post (f_terms, f_conditions, f_happened, f_waiting, f_lost, f_time, f_all, f_oldHappened, f_oldLost, f_oldTime, f_oldAll, f_kept, a_termOp, a_termValue, a_askedCode, a_code, a_oldCode, a_askedArg, a_arg, a_oldArg, a_askedLength, a_stack, (ed_sp a_question (64 * s) 64 qs'), a_oldQuestion, (ed_sp a_list (256 * s) 256 ls'), a_oldList, a_event, a_oldEvent))
    (hp1 : ∀ qs' ls', ¬ (view = 3 ∧ (ed_ms M F (e + 1)).length % N ≠ 0) → ew_inv M tm av bv fl view N F (e + 1) T qs' ls' → ew_same qs qs' →
      wpX_put post (f_terms, f_conditions, f_happened, f_waiting, f_lost, f_time, f_all, f_oldHappened, f_oldLost, f_oldTime, f_oldAll, f_kept, a_termOp, a_termValue, a_askedCode, a_code, a_oldCode, a_askedArg, a_arg, a_oldArg, a_askedLength, a_stack, (ed_sp a_question (64 * s) 64 qs'), a_oldQuestion, (ed_sp a_list (256 * s) 256 ls'), a_oldList, a_event, a_oldEvent) (nI s) (ed_tot how (ed_srt (((ed_vl M tm av view N F e).filter (fun k => ew_gp fl av k == ew_gp fl av e)).map bv)))) :
    wX_member_159 post (nI s) (nI e) (nI (64 * s)) (nI view) x5 f_terms f_conditions f_happened f_waiting f_lost f_time f_all f_oldHappened f_oldLost f_oldTime f_oldAll f_kept a_termOp a_termValue a_askedCode a_code a_oldCode a_askedArg a_arg a_oldArg a_askedLength a_stack (ed_sp a_question (64 * s) 64 qs) a_oldQuestion (ed_sp a_list (256 * s) 256 ls) a_oldList a_event a_oldEvent := by
  have hpm : S.Perm L := R.2.2.2.2.2.1
  have hmS : ∀ k ∈ S, k < e := fun k hk => hm k (hpm.subset hk)
  obtain ⟨r, r1, r2, r3⟩ := ew_place (e := e) hsrt
  have hn : e ∉ S := fun z => by have := hmS e z; omega
  unfold wX_member_159
  refine xw_enter (H := e + 1) hs (by omega) (by omega) hav hbv hfl R hll (fun k hk => by have := hmS k hk; omega) r1 r2 r3 (fun qs' ls' R' sm => ?_)
  have hsrt' := ew_ins hsrt r1 hn r2 r3
  have hpm' : (S.insertIdx r e).Perm (L ++ [e]) := R'.2.2.2.2.2.1
  have hS'm : ∀ k ∈ S.insertIdx r e, k < e + 1 := by
    intro k hk
    have := hpm'.subset hk
    rw [List.mem_append] at this
    rcases this with h | h
    · have := hm k h; omega
    · rw [List.mem_singleton] at h; omega
  have h64 : (S.insertIdx r e).length ≤ 64 := by rw [hpm'.length_eq, List.length_append, List.length_singleton]; omega
  have tot : ∀ (P : Int32 → Prop), P (ed_tot how (ed_srt (((L ++ [e]).filter (fun k => ew_gp fl av k == ew_gp fl av e)).map bv))) → wpX_total P (f_terms, f_conditions, f_happened, f_waiting, f_lost, f_time, f_all, f_oldHappened, f_oldLost, f_oldTime, f_oldAll, f_kept, a_termOp, a_termValue, a_askedCode, a_code, a_oldCode, a_askedArg, a_arg, a_oldArg, a_askedLength, a_stack, (ed_sp a_question (64 * s) 64 qs'), a_oldQuestion, (ed_sp a_list (256 * s) 256 ls'), a_oldList, a_event, a_oldEvent) (nI s) (nI e) := by
    intro P hP
    rw [← ew_tot_eq hpm' hsrt'] at hP
    exact xw_total (H := e + 1) hs h64 (by omega) hav hbv ((ed_sp_get (by omega)).trans ((sm 4 (by decide) (by decide) (by decide)).trans h4)) hw ((ed_sp_get (by omega)).trans ((sm 5 (by decide) (by decide) (by decide)).trans hfl))
      ((ed_sp_get (by omega)).trans R'.1) (fun i h => (ed_sp_get (by omega)).trans (R'.2.2.2.2.2.2.1 i h)) hS'm hsrt' (hpm'.symm.subset (by simp)) hP
  by_cases v3 : view = 3
  · subst v3
    obtain ⟨hN1, hN2, hN3⟩ := hN rfl
    subst hN1
    have st := st.2 rfl
    refine br_t rfl ?_
    have q14 : nI (64 * s) + 14 = nI (64 * s + 14) := nI_add _ 14
    have g14 := R'.2.2.1
    rw [List.length_append, List.length_singleton] at g14
    rw [q14, nI_clamp (by omega), ed_sp_get (by omega), g14]
    refine ⟨vp_in_nI (by omega) (by omega), ?_⟩
    by_cases c : L.length + 1 < N
    · obtain ⟨s1, s2⟩ := st.1 c
      exact br_f (nI_ge c (by omega)) (hp0 qs' ls' ⟨rfl, s1⟩ ⟨_, _, _, R', hsrt', s2⟩ sm)
    · obtain ⟨s1, s2, s3⟩ := st.2 c
      refine br_t (nI_le (by omega) (by omega)) (tot _ ?_)
      refine br_t rfl (xw_empty hs R' (fun qs2 R2 sm2 => ?_))
      have := hp1 qs2 ls' (fun z => z.2 s1) ⟨_, _, _, R2, List.Pairwise.nil, s3⟩ (ew_same_t sm sm2)
      rw [← s2] at this
      exact this
  · obtain ⟨s1, s2⟩ := st.1 v3
    have nv : ¬ nI view = 3 := ec_neL (b := 3) v3 (by omega) (by decide)
    refine br_f nv (tot _ (br_f nv ?_))
    have := hp1 qs' ls' (fun z => v3 z.1) ⟨_, _, _, R', hsrt', s2⟩ sm
    rw [← s1] at this
    exact this
/-- the time window drops its old ones -/
theorem xw_member_109 (hs : s < 6) (he : e < 64) (hav : ∀ k, k < e + 1 → a_event (4 * k + 1) = av k) (hbv : ∀ k, k < e + 1 → a_event (4 * k + 2) = bv k) (htm : ∀ k, k < e + 1 → a_event (4 * k + 3) = nI (tm k)) (htT : ∀ k, k < e + 1 → tm k ≤ T)
    (hT : T < 2 ^ 31) (hft : f_time = nI T) (hN : N < 2 ^ 31) :
    ∀ (L : List Nat) (qs ls : Nat → Int32) (S : List Nat) (hd : Nat), qs 5 = fl → ew_rep qs ls S L hd → S.Pairwise (fun a b => ew_bf fl av bv a b = true) → (∀ k ∈ L, k < e) → L.Pairwise (fun a b => tm a ≤ tm b) →
      (∀ qs' ls' S' hd', ew_rep qs' ls' S' (L.filter (fun k => decide (T - tm k < N))) hd' → ew_same qs qs' → S'.Pairwise (fun a b => ew_bf fl av bv a b = true) → wX_member_159 post (nI s) (nI e) (nI (64 * s)) (nI 2) (nI N) f_terms f_conditions f_happened f_waiting f_lost f_time f_all f_oldHappened f_oldLost f_oldTime f_oldAll f_kept a_termOp a_termValue a_askedCode a_code a_oldCode a_askedArg a_arg a_oldArg a_askedLength a_stack (ed_sp a_question (64 * s) 64 qs') a_oldQuestion (ed_sp a_list (256 * s) 256 ls') a_oldList a_event a_oldEvent) →
      ∀ n, L.length < n → wX_member_109 post (nI s) (nI e) (nI (64 * s)) (nI 2) (nI N) n f_terms f_conditions f_happened f_waiting f_lost f_time f_all f_oldHappened f_oldLost f_oldTime f_oldAll f_kept a_termOp a_termValue a_askedCode a_code a_oldCode a_askedArg a_arg a_oldArg a_askedLength a_stack (ed_sp a_question (64 * s) 64 qs) a_oldQuestion (ed_sp a_list (256 * s) 256 ls) a_oldList a_event a_oldEvent := by
  subst hft
  intro L
  have q14 : nI (64 * s) + 14 = nI (64 * s + 14) := nI_add _ 14
  induction L with
  | nil =>
    intro qs ls S hd hfl R hsrt hm hpw K n hn
    obtain ⟨n, rfl⟩ : ∃ m, n = m + 1 := ⟨n - 1, by omega⟩
    rw [wX_member_109]
    refine br_t rfl ?_
    rw [q14, nI_clamp (by omega), ed_sp_get (by omega), R.2.2.1]
    exact ⟨vp_in_nI (by omega) (by omega), br_t (Int32.le_refl _) (K qs ls S hd R ew_same_r hsrt)⟩
  | cons x L ih =>
    intro qs ls S hd hfl R hsrt hm hpw K n hn
    obtain ⟨n, rfl⟩ : ∃ m, n = m + 1 := ⟨n - 1, by omega⟩
    have hL64 : (x :: L).length ≤ 64 := R.2.2.2.2.1
    have hx := hm x (List.mem_cons_self)
    have hxT := htT x (by omega)
    have q3 : (4 : Int32) * nI x + 3 = nI (4 * x + 3) := by rw [← nI_add, ← pk_mul]; rfl
    rw [List.pairwise_cons] at hpw
    have hpm : S.Perm (x :: L) := R.2.2.2.2.2.1
    rw [wX_member_109]
    refine br_t rfl ?_
    rw [q14, nI_clamp (by omega), ed_sp_get (by omega), R.2.2.1]
    refine ⟨vp_in_nI (by omega) (by omega), br_f (nI_ge (a := 0) (by rw [List.length_cons]; omega) (by omega)) (xw_oldest hs R ?_)⟩
    rw [q3, nI_clamp (by omega), htm x (by omega), pk_sub hxT]
    refine ⟨vp_in_nI (by omega) (by omega), ?_⟩
    by_cases c : T - tm x < N
    · refine br_t (nI_lt c hN) (K qs ls S hd ?_ ew_same_r hsrt)
      rw [List.filter_eq_self.mpr]
      · exact R
      · intro y hy
        rcases List.mem_cons.mp hy with h | h
        · rw [h]; exact decide_eq_true c
        · have := hpw.1 y h
          exact decide_eq_true (by omega)
    · refine br_f (nI_nlt (by omega) (by omega)) ?_
      refine xw_leave (H := e + 1) hs (by omega) hav hbv hfl R (fun k hk => by have := hm k (hpm.subset hk); omega) hsrt (fun qs' ls' S' hd' R' sm hsrt' => ?_)
      refine ih qs' ls' S' hd' ((sm 5 (by decide) (by decide) (by decide)).trans hfl) R' hsrt' (fun k hk => hm k (List.mem_cons_of_mem x hk)) hpw.2 (fun qs2 ls2 S2 hd2 R2 sm2 hsrt2 => ?_) n (by rw [List.length_cons] at hn; omega)
      refine K qs2 ls2 S2 hd2 ?_ (ew_same_t sm sm2) hsrt2
      rw [List.filter_cons_of_neg (by simpa using c)]
      exact R2
theorem xw_m109 (hv : view ≤ 5) (v2 : view ≠ 2) (h : wX_member_159 post (nI s) (nI e) (nI (64 * s)) (nI view) x5 f_terms f_conditions f_happened f_waiting f_lost f_time f_all f_oldHappened f_oldLost f_oldTime f_oldAll f_kept a_termOp a_termValue a_askedCode a_code a_oldCode a_askedArg a_arg a_oldArg a_askedLength a_stack a_question a_oldQuestion a_list a_oldList a_event a_oldEvent) : ∃ n, wX_member_109 post (nI s) (nI e) (nI (64 * s)) (nI view) x5 n f_terms f_conditions f_happened f_waiting f_lost f_time f_all f_oldHappened f_oldLost f_oldTime f_oldAll f_kept a_termOp a_termValue a_askedCode a_code a_oldCode a_askedArg a_arg a_oldArg a_askedLength a_stack a_question a_oldQuestion a_list a_oldList a_event a_oldEvent :=
  ⟨1, br_f (ec_neL (b := 2) v2 (by omega) (by decide)) h⟩
theorem xw_m62 (hv : view ≤ 5) (v5 : view ≠ 5) (h : ∃ n, wX_member_109 post (nI s) (nI e) (nI (64 * s)) (nI view) x5 n f_terms f_conditions f_happened f_waiting f_lost f_time f_all f_oldHappened f_oldLost f_oldTime f_oldAll f_kept a_termOp a_termValue a_askedCode a_code a_oldCode a_askedArg a_arg a_oldArg a_askedLength a_stack a_question a_oldQuestion a_list a_oldList a_event a_oldEvent) : wX_member_62 post (nI s) (nI e) (nI (64 * s)) (nI view) x5 f_terms f_conditions f_happened f_waiting f_lost f_time f_all f_oldHappened f_oldLost f_oldTime f_oldAll f_kept a_termOp a_termValue a_askedCode a_code a_oldCode a_askedArg a_arg a_oldArg a_askedLength a_stack a_question a_oldQuestion a_list a_oldList a_event a_oldEvent :=
  br_f (ec_neL (b := 5) v5 (by omega) (by decide)) h
theorem xw_m37 (hv : view ≤ 5) (v1 : view ≠ 1) (h : wX_member_62 post (nI s) (nI e) (nI (64 * s)) (nI view) x5 f_terms f_conditions f_happened f_waiting f_lost f_time f_all f_oldHappened f_oldLost f_oldTime f_oldAll f_kept a_termOp a_termValue a_askedCode a_code a_oldCode a_askedArg a_arg a_oldArg a_askedLength a_stack a_question a_oldQuestion a_list a_oldList a_event a_oldEvent) : wX_member_37 post (nI s) (nI e) (nI (64 * s)) (nI view) x5 f_terms f_conditions f_happened f_waiting f_lost f_time f_all f_oldHappened f_oldLost f_oldTime f_oldAll f_kept a_termOp a_termValue a_askedCode a_code a_oldCode a_askedArg a_arg a_oldArg a_askedLength a_stack a_question a_oldQuestion a_list a_oldList a_event a_oldEvent :=
  br_f (ec_neL (b := 1) v1 (by omega) (by decide)) h
theorem xw_m (hs : s < 6) (hv : view ≤ 5) (v4 : view ≠ 4) (h1 : qs 1 = nI view) (h2 : qs 2 = x5) (h : wX_member_37 post (nI s) (nI e) (nI (64 * s)) (nI view) x5 f_terms f_conditions f_happened f_waiting f_lost f_time f_all f_oldHappened f_oldLost f_oldTime f_oldAll f_kept a_termOp a_termValue a_askedCode a_code a_oldCode a_askedArg a_arg a_oldArg a_askedLength a_stack (ed_sp a_question (64 * s) 64 qs) a_oldQuestion (ed_sp a_list (256 * s) 256 ls) a_oldList a_event a_oldEvent) : wpX_member post (f_terms, f_conditions, f_happened, f_waiting, f_lost, f_time, f_all, f_oldHappened, f_oldLost, f_oldTime, f_oldAll, f_kept, a_termOp, a_termValue, a_askedCode, a_code, a_oldCode, a_askedArg, a_arg, a_oldArg, a_askedLength, a_stack, (ed_sp a_question (64 * s) 64 qs), a_oldQuestion, (ed_sp a_list (256 * s) 256 ls), a_oldList, a_event, a_oldEvent) (nI s) (nI e) := by
  have q0 : (64 : Int32) * nI s = nI (64 * s) := by rw [← pk_mul]; rfl
  unfold wpX_member
  refine nm_r q0 ⟨pk_in (64 * s + 1) _ (by omega) (nI_add _ 1), nm_r (e' := nI view) ?_ ⟨pk_in (64 * s + 2) _ (by omega) (nI_add _ 2), nm_r (e' := x5) ?_ (br_f (ec_neL (b := 4) v4 (by omega) (by decide)) h)⟩⟩
  · exact (ed_qr hs (k := 1) (by decide)).trans h1
  · exact (ed_qr hs (k := 2) (by decide)).trans h2
theorem xw_m4 (hs : s < 6) (h1 : qs 1 = nI 4) (h2 : qs 2 = x5) (h : wpX_replace (fun u => match u with | (f_terms, f_conditions, f_happened, f_waiting, f_lost, f_time, f_all, f_oldHappened, f_oldLost, f_oldTime, f_oldAll, f_kept, a_termOp, a_termValue, a_askedCode, a_code, a_oldCode, a_askedArg, a_arg, a_oldArg, a_askedLength, a_stack, a_question, a_oldQuestion, a_list, a_oldList, a_event, a_oldEvent) => (wX_member_37 post (nI s) (nI e) (nI (64 * s)) (nI 4) x5 f_terms f_conditions f_happened f_waiting f_lost f_time f_all f_oldHappened f_oldLost f_oldTime f_oldAll f_kept a_termOp a_termValue a_askedCode a_code a_oldCode a_askedArg a_arg a_oldArg a_askedLength a_stack a_question a_oldQuestion a_list a_oldList a_event a_oldEvent)) (f_terms, f_conditions, f_happened, f_waiting, f_lost, f_time, f_all, f_oldHappened, f_oldLost, f_oldTime, f_oldAll, f_kept, a_termOp, a_termValue, a_askedCode, a_code, a_oldCode, a_askedArg, a_arg, a_oldArg, a_askedLength, a_stack, (ed_sp a_question (64 * s) 64 qs), a_oldQuestion, (ed_sp a_list (256 * s) 256 ls), a_oldList, a_event, a_oldEvent) (nI s) (nI e)) : wpX_member post (f_terms, f_conditions, f_happened, f_waiting, f_lost, f_time, f_all, f_oldHappened, f_oldLost, f_oldTime, f_oldAll, f_kept, a_termOp, a_termValue, a_askedCode, a_code, a_oldCode, a_askedArg, a_arg, a_oldArg, a_askedLength, a_stack, (ed_sp a_question (64 * s) 64 qs), a_oldQuestion, (ed_sp a_list (256 * s) 256 ls), a_oldList, a_event, a_oldEvent) (nI s) (nI e) := by
  have q0 : (64 : Int32) * nI s = nI (64 * s) := by rw [← pk_mul]; rfl
  unfold wpX_member
  refine nm_r q0 ⟨pk_in (64 * s + 1) _ (by omega) (nI_add _ 1), nm_r (e' := nI 4) ?_ ⟨pk_in (64 * s + 2) _ (by omega) (nI_add _ 2), nm_r (e' := x5) ?_ (br_t rfl h)⟩⟩
  · exact (ed_qr hs (k := 1) (by decide)).trans h1
  · exact (ed_qr hs (k := 2) (by decide)).trans h2
end
end
section
/-! member: all views -/
section
variable {f_terms f_conditions f_happened f_waiting f_lost f_time f_all f_oldHappened f_oldLost f_oldTime f_oldAll f_kept : Int32} {a_termOp a_termValue a_askedCode a_code a_oldCode a_askedArg a_arg a_oldArg a_askedLength a_stack a_question a_oldQuestion a_list a_oldList a_event a_oldEvent : Nat → Int32} {qs ls : Nat → Int32} {s e view N F T how : Nat} {M : Nat → Bool} {tm : Nat → Nat} {av bv : Nat → Int32} {fl x5 : Int32} {post : SX → Prop}
theorem xw_member (hs : s < 6) (he : e < 64) (hF : F ≤ e) (m : M e = true) (hav : ∀ k, k < e + 1 → a_event (4 * k + 1) = av k) (hbv : ∀ k, k < e + 1 → a_event (4 * k + 2) = bv k) (htm : ∀ k, k < e + 1 → a_event (4 * k + 3) = nI (tm k))
    (hmono : ∀ a b, a ≤ b → b < e + 1 → tm a ≤ tm b) (hte : tm e = T) (hT : T < 2 ^ 31) (hft : f_time = nI T) (h1 : qs 1 = nI view) (h2 : qs 2 = x5) (hfl : qs 5 = fl) (h4 : qs 4 = nI how) (hw : how ≤ 5) (hv : view ≤ 5)
    (hN13 : view = 1 ∨ view = 3 → x5 = nI N ∧ 1 ≤ N ∧ N ≤ 16) (hN25 : view = 2 ∨ view = 5 → x5 = nI N ∧ 1 ≤ N ∧ N ≤ 100) (I : ew_inv M tm av bv fl view N F e T qs ls)
    (hp0 : ∀ qs' ls', (view = 3 ∧ (ed_ms M F (e + 1)).length % N ≠ 0) → ew_inv M tm av bv fl view N F (e + 1) T qs' ls' → ew_same qs qs' → post (f_terms, f_conditions, f_happened, f_waiting, f_lost, f_time, f_all, f_oldHappened, f_oldLost, f_oldTime, f_oldAll, f_kept, a_termOp, a_termValue, a_askedCode, a_code, a_oldCode, a_askedArg, a_arg, a_oldArg, a_askedLength, a_stack, (ed_sp a_question (64 * s) 64 qs'), a_oldQuestion, (ed_sp a_list (256 * s) 256 ls'), a_oldList, a_event, a_oldEvent))
    (hp1 : ∀ qs' ls', ¬ (view = 3 ∧ (ed_ms M F (e + 1)).length % N ≠ 0) → ew_inv M tm av bv fl view N F (e + 1) T qs' ls' → ew_same qs qs' →
      wpX_put post (f_terms, f_conditions, f_happened, f_waiting, f_lost, f_time, f_all, f_oldHappened, f_oldLost, f_oldTime, f_oldAll, f_kept, a_termOp, a_termValue, a_askedCode, a_code, a_oldCode, a_askedArg, a_arg, a_oldArg, a_askedLength, a_stack, (ed_sp a_question (64 * s) 64 qs'), a_oldQuestion, (ed_sp a_list (256 * s) 256 ls'), a_oldList, a_event, a_oldEvent) (nI s) (ed_tot how (ed_srt (((ed_vl M tm av view N F e).filter (fun k => ew_gp fl av k == ew_gp fl av e)).map bv)))) :
    wpX_member post (f_terms, f_conditions, f_happened, f_waiting, f_lost, f_time, f_all, f_oldHappened, f_oldLost, f_oldTime, f_oldAll, f_kept, a_termOp, a_termValue, a_askedCode, a_code, a_oldCode, a_askedArg, a_arg, a_oldArg, a_askedLength, a_stack, (ed_sp a_question (64 * s) 64 qs), a_oldQuestion, (ed_sp a_list (256 * s) 256 ls), a_oldList, a_event, a_oldEvent) (nI s) (nI e) := by
  obtain ⟨S, L, hd, R, hsrt, wi⟩ := I
  have sub := ed_wi_sub hv wi
  have hm : ∀ k ∈ L, k < e := fun k hk => (ed_ms_mem.mp (sub.subset hk)).1.2
  have hll : L.length < 64 := by
    have a := sub.length_le
    have b := ed_ms_len (M := M) (a := F) (b := e)
    omega
  have hpm : S.Perm L := R.2.2.2.2.2.1
  have q14 : nI (64 * s) + 14 = nI (64 * s + 14) := nI_add _ 14
  have htT : ∀ k, k < e + 1 → tm k ≤ T := fun k hk => by rw [← hte]; exact hmono k e (by omega) (by omega)
  have hSm : ∀ k ∈ S, k < e + 1 := fun k hk => by have := hm k (hpm.subset hk); omega
  rcases (show view = 0 ∨ view = 1 ∨ view = 2 ∨ view = 3 ∨ view = 4 ∨ view = 5 by omega) with rfl | rfl | rfl | rfl | rfl | rfl
  · refine xw_m hs hv (by decide) h1 h2 (xw_m37 hv (by decide) (xw_m62 hv (by decide) (xw_m109 hv (by decide) ?_)))
    exact xw_member_159 hs he hav hbv hfl h4 hw hv (fun z => absurd z (by decide)) R hsrt hll hm ⟨fun _ => ew_s0 hF m wi, fun z => absurd z (by decide)⟩ hp0 hp1
  · obtain ⟨hx, n1, n2⟩ := hN13 (Or.inl rfl)
    subst hx
    refine xw_m hs hv (by decide) h1 h2 (br_t rfl ?_)
    rw [q14, nI_clamp (by omega), ed_sp_get (by omega), R.2.2.1]
    refine ⟨vp_in_nI (by omega) (by omega), pk_eq L.length N (fun c => ?_) (fun c => ?_)⟩
    · cases hL : L with
      | nil => rw [hL] at c; simp at c; omega
      | cons x L' =>
        subst hL
        refine xw_leave (H := e + 1) hs (by omega) hav hbv hfl R hSm hsrt (fun qs' ls' S' hd' R' sm hsrt' => ?_)
        refine xw_m62 hv (by decide) (xw_m109 hv (by decide) ?_)
        have st := ew_s1 hF m n1 wi
        rw [if_pos c] at st
        exact xw_member_159 hs he hav hbv ((sm 5 (by decide) (by decide) (by decide)).trans hfl) ((sm 4 (by decide) (by decide) (by decide)).trans h4) hw hv (fun z => absurd z (by decide)) R' hsrt' (by rw [List.length_cons] at hll; omega)
          (fun k hk => hm k (List.mem_cons_of_mem x hk)) ⟨fun _ => st, fun z => absurd z (by decide)⟩ (fun a b c d f => hp0 a b c d (ew_same_t sm f)) (fun a b c d f => hp1 a b c d (ew_same_t sm f))
    · refine xw_m62 hv (by decide) (xw_m109 hv (by decide) ?_)
      have st := ew_s1 hF m n1 wi
      rw [if_neg c] at st
      exact xw_member_159 hs he hav hbv hfl h4 hw hv (fun z => absurd z (by decide)) R hsrt hll hm ⟨fun _ => st, fun z => absurd z (by decide)⟩ hp0 hp1
  · obtain ⟨hx, n1, n2⟩ := hN25 (Or.inl rfl)
    subst hx
    refine xw_m hs hv (by decide) h1 h2 (xw_m37 hv (by decide) (xw_m62 hv (by decide) ⟨L.length + 1, ?_⟩))
    have pw : L.Pairwise (fun a b => tm a ≤ tm b) := by
      refine List.Pairwise.imp_of_mem (fun {a b} ha hb h => ?_) (ed_ms_pw.sublist sub)
      have := hm b hb
      exact hmono a b (by omega) (by omega)
    refine xw_member_109 hs he hav hbv htm htT hT hft (by omega) L qs ls S hd hfl R hsrt hm pw (fun qs' ls' S' hd' R' sm hsrt' => ?_) (L.length + 1) (by omega)
    have lf := List.length_filter_le (fun k => decide (T - tm k < N)) L
    exact xw_member_159 hs he hav hbv ((sm 5 (by decide) (by decide) (by decide)).trans hfl) ((sm 4 (by decide) (by decide) (by decide)).trans h4) hw hv (fun z => absurd z (by decide)) R' hsrt' (by omega)
      (fun k hk => hm k (List.mem_filter.mp hk).1) ⟨fun _ => ew_s2 hF m n1 hte wi, fun z => absurd z (by decide)⟩ (fun a b c d f => hp0 a b c d (ew_same_t sm f)) (fun a b c d f => hp1 a b c d (ew_same_t sm f))
  · obtain ⟨hx, n1, n2⟩ := hN13 (Or.inr rfl)
    subst hx
    refine xw_m hs hv (by decide) h1 h2 (xw_m37 hv (by decide) (xw_m62 hv (by decide) (xw_m109 hv (by decide) ?_)))
    exact xw_member_159 hs he hav hbv hfl h4 hw hv (fun _ => ⟨rfl, n1, n2⟩) R hsrt hll hm ⟨fun z => absurd rfl z, fun _ => ew_s3 hF m n1 wi⟩ hp0 hp1
  · have st := ew_s4 hF m wi
    have fin : ∀ qs' ls' S' L' hd', L' = L.filter (fun k => !(av e == av k)) → ew_rep qs' ls' S' L' hd' → ew_same qs qs' → S'.Pairwise (fun a b => ew_bf fl av bv a b = true) →
        wX_member_37 post (nI s) (nI e) (nI (64 * s)) (nI 4) x5 f_terms f_conditions f_happened f_waiting f_lost f_time f_all f_oldHappened f_oldLost f_oldTime f_oldAll f_kept a_termOp a_termValue a_askedCode a_code a_oldCode a_askedArg a_arg a_oldArg a_askedLength a_stack (ed_sp a_question (64 * s) 64 qs') a_oldQuestion (ed_sp a_list (256 * s) 256 ls') a_oldList a_event a_oldEvent := by
      intro qs' ls' S' L' hd' hL' R' sm hsrt'
      subst hL'
      refine xw_m37 hv (by decide) (xw_m62 hv (by decide) (xw_m109 hv (by decide) ?_))
      have lf := List.length_filter_le (fun k => !(av e == av k)) L
      exact xw_member_159 hs he hav hbv ((sm 5 (by decide) (by decide) (by decide)).trans hfl) ((sm 4 (by decide) (by decide) (by decide)).trans h4) hw hv (fun z => absurd z (by decide)) R' hsrt' (by omega)
        (fun k hk => hm k (List.mem_filter.mp hk).1) ⟨fun _ => st, fun z => absurd z (by decide)⟩ (fun a b c d f => hp0 a b c d (ew_same_t sm f)) (fun a b c d f => hp1 a b c d (ew_same_t sm f))
    refine xw_m4 hs h1 h2 ?_
    by_cases c : ∃ k0, ∃ h : k0 < L.length, av L[k0] = av e
    · obtain ⟨k0, ⟨hk0, hq⟩, hmin⟩ := ew_least (fun k0 => ∃ h : k0 < L.length, av L[k0] = av e) c
      have pw : L.Pairwise (fun a b => av a ≠ av b) := by
        rw [wi.2.2.2.2.1 rfl]
        have pp := (ed_ms_pw (M := M) (a := F) (b := e)).filter (fun k => ed_lat M av k e)
        refine List.Pairwise.imp_of_mem (fun {a b} ha hb h => ?_) pp
        have a2 := (List.mem_filter.mp ha).2
        have b1 := ed_ms_mem.mp (List.mem_filter.mp hb).1
        unfold ed_lat at a2
        rw [List.all_eq_true] at a2
        have := a2 b (ed_rg_mem.mpr ⟨h, b1.1.2⟩)
        rw [b1.2] at this
        intro z
        rw [z] at this
        simp at this
      refine xw_replace_some (H := e + 1) hs (by omega) (by omega) hav hbv hfl (fun k hk => by have := hm k hk; omega) R hsrt hk0 (fun i h hi z => hmin i hi ⟨h, z⟩) hq (fun qs' ls' S' R' sm hsrt' => ?_)
      exact fin qs' ls' S' _ hd (ew_filt_some pw hk0 hq).symm R' sm hsrt'
    · refine xw_replace_none (H := e + 1) hs (by omega) (by omega) hav (fun k hk => by have := hm k hk; omega) R (fun i h z => c ⟨i, h, z⟩) ?_
      exact fin qs ls S L hd (ew_filt_none (fun i h z => c ⟨i, h, z⟩)).symm R ew_same_r hsrt
  · obtain ⟨hx, n1, n2⟩ := hN25 (Or.inr rfl)
    subst hx
    refine xw_m hs hv (by decide) h1 h2 (xw_m37 hv (by decide) (br_t rfl ?_))
    rw [q14, nI_clamp (by omega), ed_sp_get (by omega), R.2.2.1]
    refine ⟨vp_in_nI (by omega) (by omega), pk_le L.length 0 (fun c => ?_) (fun c => ?_)⟩
    · have hL : L = [] := List.eq_nil_of_length_eq_zero (by omega)
      refine xw_m109 hv (by decide) ?_
      exact xw_member_159 hs he hav hbv hfl h4 hw hv (fun z => absurd z (by decide)) R hsrt hll hm ⟨fun _ => ew_s5b hF m wi (fun j hj => by rw [hL] at hj; cases hj), fun z => absurd z (by decide)⟩ hp0 hp1
    · obtain ⟨x, hx⟩ : ∃ x, L.getLast? = some x := by
        cases hg : L.getLast? with
        | none => rw [List.getLast?_eq_none_iff] at hg; rw [hg] at c; simp at c
        | some x => exact ⟨x, rfl⟩
      have hxm : x < e := hm x (List.mem_of_getLast? hx)
      have q3 : (4 : Int32) * nI x + 3 = nI (4 * x + 3) := by rw [← nI_add, ← pk_mul]; rfl
      have hxT := htT x (by omega)
      refine xw_newest hs R hx ?_
      have e1 : f_time - a_event (4 * nI x + 3).toNatClampNeg = nI (T - tm x) := by
        rw [q3, nI_clamp (by omega), htm x (by omega), hft, pk_sub hxT]
      rw [e1, q3]
      refine ⟨vp_in_nI (by omega) (by omega), pk_lt (T - tm x) N (fun d => ?_) (fun d => ?_)⟩
      · refine xw_m109 hv (by decide) ?_
        refine xw_member_159 hs he hav hbv hfl h4 hw hv (fun z => absurd z (by decide)) R hsrt hll hm ⟨fun _ => ew_s5b hF m wi (fun j hj => ?_), fun z => absurd z (by decide)⟩ hp0 hp1
        rw [hx] at hj
        cases hj
        rw [hte]; exact d
      · refine xw_empty hs R (fun qs' R' sm => ?_)
        refine xw_m109 hv (by decide) ?_
        exact xw_member_159 hs he hav hbv ((sm 5 (by decide) (by decide) (by decide)).trans hfl) ((sm 4 (by decide) (by decide) (by decide)).trans h4) hw hv (fun z => absurd z (by decide)) R' List.Pairwise.nil (by simp) (fun k hk => by cases hk)
          ⟨fun _ => ew_s5a hF m wi ⟨x, hx, by rw [hte]; exact d⟩, fun z => absurd z (by decide)⟩ (fun a b c d f => hp0 a b c d (ew_same_t sm f)) (fun a b c d f => hp1 a b c d (ew_same_t sm f))
end
end
section
/-! the component's patterns -/
def ed_bI (b : Bool) : Int32 := if b = true then 1 else 0
theorem ed_bI_t : ed_bI true = 1 := rfl
theorem ed_bI_f : ed_bI false = 0 := rfl
theorem ed_bI_br {b : Bool} {A B : Prop} (f : b = false → A) (g : b = true → B) : (ed_bI b = 0 → A) ∧ (¬ ed_bI b = 0 → B) := by
  cases b with
  | false => exact br_t rfl (f rfl)
  | true => exact br_f (by decide) (g rfl)
theorem ed_bI_br1 {b : Bool} {A B : Prop} (f : b = true → A) (g : b = false → B) : (ed_bI b = 1 → A) ∧ (¬ ed_bI b = 1 → B) := by
  cases b with
  | false => exact br_f (by decide) (g rfl)
  | true => exact br_t rfl (f rfl)
def xp_rep (qs ls : Nat → Int32) (P : List Nat) (op ro : Nat → Nat) : Prop :=
  qs 12 = nI P.length ∧ P.length ≤ 64 ∧ ∀ i (h : i < P.length), ls i = nI P[i] ∧ ls (64 + i) = nI (op P[i]) ∧ ls (128 + i) = nI (ro P[i])
section
variable {f_terms f_conditions f_happened f_waiting f_lost f_time f_all f_oldHappened f_oldLost f_oldTime f_oldAll f_kept : Int32} {a_termOp a_termValue a_askedCode a_code a_oldCode a_askedArg a_arg a_oldArg a_askedLength a_stack a_question a_oldQuestion a_list a_oldList a_event a_oldEvent : Nat → Int32} {qs ls : Nat → Int32} {s e N T : Nat} {tm : Nat → Nat} {av : Nat → Int32} {P : List Nat} {op ro : Nat → Nat} {post : SX → Prop}
theorem xp_forget_loop (hs : s < 6) (he : e ≤ 64) (htm : ∀ k, k < e → a_event (4 * k + 3) = nI (tm k)) (htT : ∀ k, k < e → tm k ≤ T) (hT : T < 2 ^ 31) (hft : f_time = nI T) (hN : N < 2 ^ 31) (h2 : qs 2 = nI N) (h12 : qs 12 = nI P.length) (h64 : P.length ≤ 64) (hm : ∀ k ∈ P, k < e)
    (hp : ∀ ls', xp_rep (upd qs 12 (nI (P.filter (fun k => decide (T - tm k < N))).length)) ls' (P.filter (fun k => decide (T - tm k < N))) op ro → post (f_terms, f_conditions, f_happened, f_waiting, f_lost, f_time, f_all, f_oldHappened, f_oldLost, f_oldTime, f_oldAll, f_kept, a_termOp, a_termValue, a_askedCode, a_code, a_oldCode, a_askedArg, a_arg, a_oldArg, a_askedLength, a_stack, (ed_sp a_question (64 * s) 64 (upd qs 12 (nI (P.filter (fun k => decide (T - tm k < N))).length))), a_oldQuestion, (ed_sp a_list (256 * s) 256 ls'), a_oldList, a_event, a_oldEvent)) :
    ∀ d k lsk, k + d = P.length → (∀ i (h : i < ((P.take k).filter (fun k => decide (T - tm k < N))).length), lsk i = nI ((P.take k).filter (fun k => decide (T - tm k < N)))[i] ∧ lsk (64 + i) = nI (op ((P.take k).filter (fun k => decide (T - tm k < N)))[i]) ∧ lsk (128 + i) = nI (ro ((P.take k).filter (fun k => decide (T - tm k < N)))[i])) →
      (∀ i (h : i < P.length), k ≤ i → lsk i = nI P[i] ∧ lsk (64 + i) = nI (op P[i]) ∧ lsk (128 + i) = nI (ro P[i])) → ∀ n, d < n →
      wX_forget_17 post (nI (64 * s)) (nI (256 * s)) f_terms f_conditions f_happened f_waiting f_lost f_time f_all f_oldHappened f_oldLost f_oldTime f_oldAll f_kept n (nI ((P.take k).filter (fun k => decide (T - tm k < N))).length) (nI k) a_termOp a_termValue a_askedCode a_code a_oldCode a_askedArg a_arg a_oldArg a_askedLength a_stack (ed_sp a_question (64 * s) 64 qs) a_oldQuestion (ed_sp a_list (256 * s) 256 lsk) a_oldList a_event a_oldEvent := by
  subst hft
  intro d
  induction d with
  | zero =>
    intro k lsk hk g1 g2 n hn
    obtain ⟨n, rfl⟩ : ∃ m, n = m + 1 := ⟨n - 1, by omega⟩
    obtain rfl : k = P.length := by omega
    rw [List.take_length] at g1 ⊢
    rw [wX_forget_17]
    simp (disch := omega) only [ed_lit, nI_add, pk_mul, pk_sub, Nat.add_assoc, Nat.add_zero, Nat.zero_add, Nat.reduceAdd, Nat.reduceSub, Nat.reduceMul, Nat.add_sub_cancel, ed_asub, ed_in, nI_clamp, true_and, and_true, ed_sp_get, ed_sp_get0, ed_sp_upd, ed_sp_upd0, forall_eq, forall_const, true_implies, false_implies, not_true_eq_false, not_false_eq_true, and_self, ed_le, ed_nle, ed_lt, ed_nlt, ed_ne, ed_eq, h12]
    have lf := List.length_filter_le (fun k => decide (T - tm k < N)) P
    exact hp lsk ⟨rfl, by omega, g1⟩
  | succ d ih =>
    intro k lsk hk g1 g2 n hn
    obtain ⟨n, rfl⟩ : ∃ m, n = m + 1 := ⟨n - 1, by omega⟩
    have hkl : k < P.length := by omega
    obtain ⟨c1, c2, c3⟩ := g2 k hkl (Nat.le_refl k)
    have hx : P[k] < e := hm _ (List.getElem_mem hkl)
    have hxT := htT _ hx
    have hxt := htm _ hx
    have tk : P.take (k + 1) = P.take k ++ [P[k]] := by rw [List.take_add_one, List.getElem?_eq_getElem hkl]; rfl
    have ih := ih (k + 1)
    have lf := List.length_filter_le (fun k => decide (T - tm k < N)) (P.take k)
    rw [List.length_take] at lf
    rw [tk, List.filter_append] at ih
    rw [wX_forget_17]
    by_cases c : T - tm P[k] < N
    · rw [List.filter_cons_of_pos (by simpa using c), List.filter_nil] at ih
      generalize hQ : (P.take k).filter (fun k => decide (T - tm k < N)) = Q at ih g1 lf ⊢
      simp (disch := omega) only [ed_lit, nI_add, pk_mul, pk_sub, Nat.add_assoc, Nat.add_zero, Nat.zero_add, Nat.reduceAdd, Nat.reduceSub, Nat.reduceMul, Nat.add_sub_cancel, ed_asub, ed_in, nI_clamp, true_and, and_true, ed_sp_get, ed_sp_get0, ed_sp_upd, ed_sp_upd0, forall_eq, forall_const, true_implies, false_implies, not_true_eq_false, not_false_eq_true, and_self, ed_le, ed_nle, ed_lt, ed_nlt, ed_ne, ed_eq, h12, h2, c1, hxt]
      have e1 : upd lsk Q.length (nI P[k]) (64 + k) = nI (op P[k]) := (pk_un (by omega)).trans c2
      have e2 : upd (upd lsk Q.length (nI P[k])) (64 + Q.length) (nI (op P[k])) (128 + k) = nI (ro P[k]) := (pk_un (by omega)).trans ((pk_un (by omega)).trans c3)
      rw [e1, e2]
      have := ih (upd (upd (upd lsk Q.length (nI P[k])) (64 + Q.length) (nI (op P[k]))) (128 + Q.length) (nI (ro P[k]))) (by omega) (fun i h => ?_) (fun i h hi => ?_) n (by omega)
      · rw [List.length_append, List.length_singleton] at this
        exact this
      · rw [List.length_append, List.length_singleton] at h
        by_cases a : i = Q.length
        · subst a
          rw [List.getElem_concat_length rfl]
          refine ⟨?_, ?_, pk_us⟩
          · rw [pk_un (by omega), pk_un (by omega), pk_us]
          · rw [pk_un (by omega), pk_us]
        · rw [List.getElem_append_left (by omega)]
          obtain ⟨d1, d2, d3⟩ := g1 i (by omega)
          refine ⟨?_, ?_, ?_⟩
          · rw [pk_un (by omega), pk_un (by omega), pk_un (by omega), d1]
          · rw [pk_un (by omega), pk_un (by omega), pk_un (by omega), d2]
          · rw [pk_un (by omega), pk_un (by omega), pk_un (by omega), d3]
      · obtain ⟨d1, d2, d3⟩ := g2 i h (by omega)
        refine ⟨?_, ?_, ?_⟩
        · rw [pk_un (by omega), pk_un (by omega), pk_un (by omega), d1]
        · rw [pk_un (by omega), pk_un (by omega), pk_un (by omega), d2]
        · rw [pk_un (by omega), pk_un (by omega), pk_un (by omega), d3]
    · rw [List.filter_cons_of_neg (by simpa using c), List.filter_nil, List.append_nil] at ih
      simp (disch := omega) only [ed_lit, nI_add, pk_mul, pk_sub, Nat.add_assoc, Nat.add_zero, Nat.zero_add, Nat.reduceAdd, Nat.reduceSub, Nat.reduceMul, Nat.add_sub_cancel, ed_asub, ed_in, nI_clamp, true_and, and_true, ed_sp_get, ed_sp_get0, ed_sp_upd, ed_sp_upd0, forall_eq, forall_const, true_implies, false_implies, not_true_eq_false, not_false_eq_true, and_self, ed_le, ed_nle, ed_lt, ed_nlt, ed_ne, ed_eq, h12, h2, c1, hxt]
      exact ih lsk (by omega) g1 (fun i h hi => g2 i h (by omega)) n (by omega)
theorem xp_forget (hs : s < 6) (he : e ≤ 64) (htm : ∀ k, k < e → a_event (4 * k + 3) = nI (tm k)) (htT : ∀ k, k < e → tm k ≤ T) (hT : T < 2 ^ 31) (hft : f_time = nI T) (hN : N < 2 ^ 31) (h2 : qs 2 = nI N) (R : xp_rep qs ls P op ro) (hm : ∀ k ∈ P, k < e)
    (hp : ∀ ls', xp_rep (upd qs 12 (nI (P.filter (fun k => decide (T - tm k < N))).length)) ls' (P.filter (fun k => decide (T - tm k < N))) op ro → post (f_terms, f_conditions, f_happened, f_waiting, f_lost, f_time, f_all, f_oldHappened, f_oldLost, f_oldTime, f_oldAll, f_kept, a_termOp, a_termValue, a_askedCode, a_code, a_oldCode, a_askedArg, a_arg, a_oldArg, a_askedLength, a_stack, (ed_sp a_question (64 * s) 64 (upd qs 12 (nI (P.filter (fun k => decide (T - tm k < N))).length))), a_oldQuestion, (ed_sp a_list (256 * s) 256 ls'), a_oldList, a_event, a_oldEvent)) :
    wpX_forget post (f_terms, f_conditions, f_happened, f_waiting, f_lost, f_time, f_all, f_oldHappened, f_oldLost, f_oldTime, f_oldAll, f_kept, a_termOp, a_termValue, a_askedCode, a_code, a_oldCode, a_askedArg, a_arg, a_oldArg, a_askedLength, a_stack, (ed_sp a_question (64 * s) 64 qs), a_oldQuestion, (ed_sp a_list (256 * s) 256 ls), a_oldList, a_event, a_oldEvent) (nI s) := by
  have q0 : (64 : Int32) * nI s = nI (64 * s) := by rw [← pk_mul]; rfl
  have q1 : (256 : Int32) * nI s = nI (256 * s) := by rw [← pk_mul]; rfl
  unfold wpX_forget
  refine nm_r q0 (nm_r q1 ⟨P.length + 1, ?_⟩)
  exact xp_forget_loop (P := P) hs he htm htT hT hft hN h2 R.1 R.2.1 hm hp P.length 0 ls (by omega) (fun i h => absurd h (by simp)) (fun i h _ => R.2.2 i h) (P.length + 1) (by omega)
end
end
section
/-! follow: one first event -/
def xp_cell (ls ls' : Nat → Int32) (k o r : Nat) : Prop := ls' (64 + k) = nI o ∧ ls' (128 + k) = nI r ∧ ∀ j, j ≠ 64 + k → j ≠ 128 + k → ls' j = ls j
section
variable {f_terms f_conditions f_happened f_waiting f_lost f_time f_all f_oldHappened f_oldLost f_oldTime f_oldAll f_kept : Int32} {a_termOp a_termValue a_askedCode a_code a_oldCode a_askedArg a_arg a_oldArg a_askedLength a_stack a_question a_oldQuestion a_list a_oldList a_event a_oldEvent : Nat → Int32} {qs ls : Nat → Int32} {s k o r mo n en C : Nat} {x1 x2 x3 x5 x6 x7 x8 x9 x10 : Int32} {brk sec lst once : Bool} {post : SX → Prop} {J : Int32 → Int32 → Int32 → Int32 → Int32 → Int32 → Int32 → Int32 → Int32 → Int32 → Int32 → Int32 → Int32 → Int32 → (Nat → Int32) → (Nat → Int32) → (Nat → Int32) → (Nat → Int32) → (Nat → Int32) → (Nat → Int32) → (Nat → Int32) → (Nat → Int32) → (Nat → Int32) → (Nat → Int32) → (Nat → Int32) → (Nat → Int32) → (Nat → Int32) → (Nat → Int32) → (Nat → Int32) → (Nat → Int32) → Prop}
theorem xp_cut (hs : s < 6) (hk : k < 64) (hp : ∀ ls', xp_cell ls ls' k 0 mo → post (f_terms, f_conditions, f_happened, f_waiting, f_lost, f_time, f_all, f_oldHappened, f_oldLost, f_oldTime, f_oldAll, f_kept, a_termOp, a_termValue, a_askedCode, a_code, a_oldCode, a_askedArg, a_arg, a_oldArg, a_askedLength, a_stack, (ed_sp a_question (64 * s) 64 qs), a_oldQuestion, (ed_sp a_list (256 * s) 256 ls'), a_oldList, a_event, a_oldEvent)) : wpX_cut post (f_terms, f_conditions, f_happened, f_waiting, f_lost, f_time, f_all, f_oldHappened, f_oldLost, f_oldTime, f_oldAll, f_kept, a_termOp, a_termValue, a_askedCode, a_code, a_oldCode, a_askedArg, a_arg, a_oldArg, a_askedLength, a_stack, (ed_sp a_question (64 * s) 64 qs), a_oldQuestion, (ed_sp a_list (256 * s) 256 ls), a_oldList, a_event, a_oldEvent) (nI (256 * s) + nI k) (nI mo) := by
  unfold wpX_cut
  simp (disch := omega) only [ed_lit, nI_add, pk_mul, pk_sub, Nat.add_assoc, Nat.add_zero, Nat.zero_add, Nat.reduceAdd, Nat.reduceSub, Nat.reduceMul, Nat.add_sub_cancel, ed_asub, ed_in, nI_clamp, true_and, and_true, forall_eq, forall_const, true_implies, false_implies, not_true_eq_false, not_false_eq_true, and_self]
  have e1 : 256 * s + (k + 64) = 256 * s + (64 + k) := by omega
  have e2 : 256 * s + (k + 128) = 256 * s + (128 + k) := by omega
  rw [e1, e2, ed_sp_upd (by omega), ed_sp_upd (by omega)]
  refine hp _ ⟨?_, pk_us, fun j h1 h2 => ?_⟩
  · rw [pk_un (by omega), pk_us]
  · rw [pk_un h2, pk_un h1]
theorem xp_260 (hs : s < 6) (hk : k < 64) (h64 : ls (64 + k) = nI o) (h128 : ls (128 + k) = nI r) (K : ∀ ls', xp_cell ls ls' k (if brk = true then 0 else o) (if brk = true then mo else r + mo) → J x6 (nI (k + 1)) f_terms f_conditions f_happened f_waiting f_lost f_time f_all f_oldHappened f_oldLost f_oldTime f_oldAll f_kept a_termOp a_termValue a_askedCode a_code a_oldCode a_askedArg a_arg a_oldArg a_askedLength a_stack (ed_sp a_question (64 * s) 64 qs) a_oldQuestion (ed_sp a_list (256 * s) 256 ls') a_oldList a_event a_oldEvent) :
    wX_follow_260 post J x1 x2 x3 (nI (256 * s)) x5 x6 x7 x8 x9 (ed_bI brk) (nI k) (nI mo) f_terms f_conditions f_happened f_waiting f_lost f_time f_all f_oldHappened f_oldLost f_oldTime f_oldAll f_kept a_termOp a_termValue a_askedCode a_code a_oldCode a_askedArg a_arg a_oldArg a_askedLength a_stack (ed_sp a_question (64 * s) 64 qs) a_oldQuestion (ed_sp a_list (256 * s) 256 ls) a_oldList a_event a_oldEvent := by
  unfold wX_follow_260
  refine ed_bI_br (fun b => ?_) (fun b => ?_)
  · subst b
    simp (disch := omega) only [ed_lit, nI_add, pk_mul, pk_sub, Nat.add_assoc, Nat.add_zero, Nat.zero_add, Nat.reduceAdd, Nat.reduceSub, Nat.reduceMul, Nat.add_sub_cancel, ed_asub, ed_in, nI_clamp, true_and, and_true, ed_sp_get, ed_sp_get0, ed_sp_upd, ed_sp_upd0, forall_eq, forall_const, true_implies, false_implies, not_true_eq_false, not_false_eq_true, and_self, h128]
    exact K _ ⟨(pk_un (by omega)).trans h64, pk_us, fun j h1 h2 => pk_un h2⟩
  · subst b
    refine xp_cut hs hk (fun ls' h => ?_)
    exact nm_r (nI_1 _) (K ls' h)
theorem xp_249 (hs : s < 6) (hk : k < 64) (h64 : ls (64 + k) = nI o) (h128 : ls (128 + k) = nI r) (K : ∀ ls', xp_cell ls ls' k (if brk = true then 0 else o) (if brk = true then (if sec = true then o else 0) else r + (if sec = true then o else 0)) → J x6 (nI (k + 1)) f_terms f_conditions f_happened f_waiting f_lost f_time f_all f_oldHappened f_oldLost f_oldTime f_oldAll f_kept a_termOp a_termValue a_askedCode a_code a_oldCode a_askedArg a_arg a_oldArg a_askedLength a_stack (ed_sp a_question (64 * s) 64 qs) a_oldQuestion (ed_sp a_list (256 * s) 256 ls') a_oldList a_event a_oldEvent) :
    wX_follow_249 post J x1 x2 x3 (nI (256 * s)) x5 x6 x7 (ed_bI sec) x9 (ed_bI brk) (nI k) (nI o) f_terms f_conditions f_happened f_waiting f_lost f_time f_all f_oldHappened f_oldLost f_oldTime f_oldAll f_kept a_termOp a_termValue a_askedCode a_code a_oldCode a_askedArg a_arg a_oldArg a_askedLength a_stack (ed_sp a_question (64 * s) 64 qs) a_oldQuestion (ed_sp a_list (256 * s) 256 ls) a_oldList a_event a_oldEvent := by
  unfold wX_follow_249
  refine ed_bI_br (fun b => ?_) (fun b => ?_)
  · subst b
    exact xp_260 (mo := 0) hs hk h64 h128 K
  · subst b
    exact xp_260 (mo := o) hs hk h64 h128 K
theorem xp_209 (hs : s < 6) (hk : k < 64) (h19 : qs 19 = ed_bI once) (h64 : ls (64 + k) = nI o) (h128 : ls (128 + k) = nI r) (hen : en < 2 ^ 31)
    (K1 : (0 < en ∧ once = true) → ∀ ls', xp_cell ls ls' k 0 0 → J (nI (n + en)) (nI (k + 1)) f_terms f_conditions f_happened f_waiting f_lost f_time f_all f_oldHappened f_oldLost f_oldTime f_oldAll f_kept a_termOp a_termValue a_askedCode a_code a_oldCode a_askedArg a_arg a_oldArg a_askedLength a_stack (ed_sp a_question (64 * s) 64 qs) a_oldQuestion (ed_sp a_list (256 * s) 256 ls') a_oldList a_event a_oldEvent)
    (K2 : ¬ (0 < en ∧ once = true) → ∀ ls', xp_cell ls ls' k (if brk = true then 0 else o) (if brk = true then (if sec = true then o else 0) else r + (if sec = true then o else 0)) → J (nI (n + en)) (nI (k + 1)) f_terms f_conditions f_happened f_waiting f_lost f_time f_all f_oldHappened f_oldLost f_oldTime f_oldAll f_kept a_termOp a_termValue a_askedCode a_code a_oldCode a_askedArg a_arg a_oldArg a_askedLength a_stack (ed_sp a_question (64 * s) 64 qs) a_oldQuestion (ed_sp a_list (256 * s) 256 ls') a_oldList a_event a_oldEvent) :
    wX_follow_209 post J x1 x2 (nI (64 * s)) (nI (256 * s)) x5 (nI n) x7 (ed_bI sec) x9 (ed_bI brk) (nI k) (nI o) (nI en) f_terms f_conditions f_happened f_waiting f_lost f_time f_all f_oldHappened f_oldLost f_oldTime f_oldAll f_kept a_termOp a_termValue a_askedCode a_code a_oldCode a_askedArg a_arg a_oldArg a_askedLength a_stack (ed_sp a_question (64 * s) 64 qs) a_oldQuestion (ed_sp a_list (256 * s) 256 ls) a_oldList a_event a_oldEvent := by
  unfold wX_follow_209
  refine nm_r (nI_add _ _) (pk_le en 0 (fun c => ?_) (fun c => ?_))
  · exact xp_249 hs hk h64 h128 (K2 (by omega))
  · refine ⟨pk_in (64 * s + 19) _ (by omega) (nI_add _ 19), ?_⟩
    rw [show ed_sp a_question (64 * s) 64 qs (nI (64 * s) + 19).toNatClampNeg = ed_bI once from (ed_qr hs (k := 19) (by decide)).trans h19]
    refine ed_bI_br1 (fun b => ?_) (fun b => ?_)
    · exact xp_cut (mo := 0) hs hk (fun ls' h => nm_r (nI_1 _) (K1 ⟨c, b⟩ ls' h))
    · exact xp_249 hs hk h64 h128 (K2 (fun z => by rw [b] at z; exact absurd z.2 (by decide)))
theorem xp_156 (hs : s < 6) (hk : k < 64) (hC : C < 4) (h19 : qs 19 = ed_bI once) (h64 : ls (64 + k) = nI o) (h128 : ls (128 + k) = nI r) (ho : o < 2 ^ 31) (hr : r < 2 ^ 31)
    (he : en = if lst = true then (if C = 2 then o else r) else 0)
    (K1 : (0 < en ∧ once = true) → ∀ ls', xp_cell ls ls' k 0 0 → J (nI (n + en)) (nI (k + 1)) f_terms f_conditions f_happened f_waiting f_lost f_time f_all f_oldHappened f_oldLost f_oldTime f_oldAll f_kept a_termOp a_termValue a_askedCode a_code a_oldCode a_askedArg a_arg a_oldArg a_askedLength a_stack (ed_sp a_question (64 * s) 64 qs) a_oldQuestion (ed_sp a_list (256 * s) 256 ls') a_oldList a_event a_oldEvent)
    (K2 : ¬ (0 < en ∧ once = true) → ∀ ls', xp_cell ls ls' k (if brk = true then 0 else o) (if brk = true then (if sec = true then o else 0) else r + (if sec = true then o else 0)) → J (nI (n + en)) (nI (k + 1)) f_terms f_conditions f_happened f_waiting f_lost f_time f_all f_oldHappened f_oldLost f_oldTime f_oldAll f_kept a_termOp a_termValue a_askedCode a_code a_oldCode a_askedArg a_arg a_oldArg a_askedLength a_stack (ed_sp a_question (64 * s) 64 qs) a_oldQuestion (ed_sp a_list (256 * s) 256 ls') a_oldList a_event a_oldEvent) :
    wX_follow_156 post J x1 x2 (nI (64 * s)) (nI (256 * s)) (nI C) (nI n) x7 (ed_bI sec) (ed_bI lst) (ed_bI brk) (nI k) f_terms f_conditions f_happened f_waiting f_lost f_time f_all f_oldHappened f_oldLost f_oldTime f_oldAll f_kept a_termOp a_termValue a_askedCode a_code a_oldCode a_askedArg a_arg a_oldArg a_askedLength a_stack (ed_sp a_question (64 * s) 64 qs) a_oldQuestion (ed_sp a_list (256 * s) 256 ls) a_oldList a_event a_oldEvent := by
  unfold wX_follow_156
  have q64 : nI (256 * s) + 64 + nI k = nI (256 * s + (64 + k)) := by rw [← Nat.add_assoc, ← nI_add, ← nI_add]; rfl
  have q128 : nI (256 * s) + 128 + nI k = nI (256 * s + (128 + k)) := by rw [← Nat.add_assoc, ← nI_add, ← nI_add]; rfl
  rw [q64, q128, nI_clamp (by omega), nI_clamp (by omega), ed_sp_get (by omega), ed_sp_get (by omega), h64, h128]
  refine ⟨vp_in_nI (by omega) (by omega), nm_e ⟨vp_in_nI (by omega) (by omega), nm_e (ed_bI_br (fun b => ?_) (fun b => ?_))⟩⟩
  · subst b
    rw [if_neg (by decide)] at he
    subst he
    exact xp_209 (en := 0) hs hk h19 h64 h128 (by omega) K1 K2
  · subst b
    rw [if_pos rfl] at he
    refine pk_eq C 2 (fun c => ?_) (fun c => ?_)
    · rw [if_pos c] at he
      subst he
      exact xp_209 hs hk h19 h64 h128 ho K1 K2
    · rw [if_neg c] at he
      subst he
      exact xp_209 hs hk h19 h64 h128 hr K1 K2
end
end
section
/-! follow: the loop over the first events -/
def xp_mid (ls : Nat → Int32) (P : List Nat) (op ro op1 ro1 : Nat → Nat) (k : Nat) : Prop :=
  ∀ i (h : i < P.length), ls i = nI P[i] ∧ ls (64 + i) = nI (if i < k then op1 P[i] else op P[i]) ∧ ls (128 + i) = nI (if i < k then ro1 P[i] else ro P[i])
theorem xp_mid_step {ls ls' : Nat → Int32} {P : List Nat} {op ro op1 ro1 : Nat → Nat} {k : Nat} (h64 : P.length ≤ 64) (hk : k < P.length) (h : xp_mid ls P op ro op1 ro1 k) (c : xp_cell ls ls' k (op1 P[k]) (ro1 P[k])) : xp_mid ls' P op ro op1 ro1 (k + 1) := by
  intro i hi
  obtain ⟨a1, a2, a3⟩ := h i hi
  obtain ⟨c1, c2, c3⟩ := c
  refine ⟨(c3 i (by omega) (by omega)).trans a1, ?_, ?_⟩
  · by_cases e : i = k
    · subst e; rw [if_pos (by omega)]; exact c1
    · rw [c3 _ (by omega) (by omega), a2]
      by_cases d : i < k
      · rw [if_pos d, if_pos (by omega)]
      · rw [if_neg d, if_neg (by omega)]
  · by_cases e : i = k
    · subst e; rw [if_pos (by omega)]; exact c2
    · rw [c3 _ (by omega) (by omega), a3]
      by_cases d : i < k
      · rw [if_pos d, if_pos (by omega)]
      · rw [if_neg d, if_neg (by omega)]
theorem xp_mid_same {ls : Nat → Int32} {P : List Nat} {op ro op1 ro1 : Nat → Nat} {k : Nat} (h64 : P.length ≤ 64) (hk : k < P.length) (h : xp_mid ls P op ro op1 ro1 k) (e1 : op1 P[k] = op P[k]) (e2 : ro1 P[k] = ro P[k]) : xp_mid ls P op ro op1 ro1 (k + 1) := by
  obtain ⟨a1, a2, a3⟩ := h k hk
  rw [if_neg (by omega)] at a2 a3
  exact xp_mid_step h64 hk h ⟨by rw [e1]; exact a2, by rw [e2]; exact a3, fun _ _ _ => rfl⟩
section
variable {f_terms f_conditions f_happened f_waiting f_lost f_time f_all f_oldHappened f_oldLost f_oldTime f_oldAll f_kept : Int32} {a_termOp a_termValue a_askedCode a_code a_oldCode a_askedArg a_arg a_oldArg a_askedLength a_stack a_question a_oldQuestion a_list a_oldList a_event a_oldEvent : Nat → Int32} {qs : Nat → Int32} {s e C : Nat} {ty av : Nat → Int32} {stop : Int32} {M1 Ml : Nat → Bool} {eq once fst : Bool} {P : List Nat} {post : SX → Prop}
theorem xp_loop (hs : s < 6) (he : e < 64) (hC : C < 4) (hav : ∀ k, k < e + 1 → a_event (4 * k + 1) = av k) (h5 : qs 5 = ed_bI eq) (h12 : qs 12 = nI P.length) (h19 : qs 19 = ed_bI once) (h64 : P.length < 64) (hm : ∀ f ∈ P, f < e)
    (K : ∀ qs' ls', xp_rep qs' ls' (if fst = true then P ++ [e] else P) (fun f => ep_op ty av stop M1 Ml eq (decide (C = 2)) once f (e + 1)) (fun f => ep_ro ty av stop M1 Ml eq (decide (C = 2)) once f (e + 1)) → (∀ j, j ≠ 12 → qs' j = qs j) →
      wX_follow_363 post (nI s) (nI (ep_sum P (fun f => ep_vl ty av stop M1 Ml eq (decide (C = 2)) once f e))) f_terms f_conditions f_happened f_waiting f_lost f_time f_all f_oldHappened f_oldLost f_oldTime f_oldAll f_kept a_termOp a_termValue a_askedCode a_code a_oldCode a_askedArg a_arg a_oldArg a_askedLength a_stack (ed_sp a_question (64 * s) 64 qs') a_oldQuestion (ed_sp a_list (256 * s) 256 ls') a_oldList a_event a_oldEvent) :
    ∀ d k lsk, k + d = P.length → xp_mid lsk P (fun f => ep_op ty av stop M1 Ml eq (decide (C = 2)) once f e) (fun f => ep_ro ty av stop M1 Ml eq (decide (C = 2)) once f e) (fun f => ep_op ty av stop M1 Ml eq (decide (C = 2)) once f (e + 1)) (fun f => ep_ro ty av stop M1 Ml eq (decide (C = 2)) once f (e + 1)) k → ∀ n, d < n →
      wX_follow_88 post (nI s) (nI e) (nI (64 * s)) (nI (256 * s)) (nI C) (ed_bI fst) (ed_bI (M1 e)) (ed_bI (Ml e)) (ed_bI (ty e == stop)) n (nI (ep_sum (P.take k) (fun f => ep_vl ty av stop M1 Ml eq (decide (C = 2)) once f e))) (nI k) f_terms f_conditions f_happened f_waiting f_lost f_time f_all f_oldHappened f_oldLost f_oldTime f_oldAll f_kept a_termOp a_termValue a_askedCode a_code a_oldCode a_askedArg a_arg a_oldArg a_askedLength a_stack (ed_sp a_question (64 * s) 64 qs) a_oldQuestion (ed_sp a_list (256 * s) 256 lsk) a_oldList a_event a_oldEvent := by
  intro d
  have q12 : nI (64 * s) + 12 = nI (64 * s + 12) := nI_add _ 12
  have q5 : nI (64 * s) + 5 = nI (64 * s + 5) := nI_add _ 5
  induction d with
  | zero =>
    intro k lsk hk I n hn
    obtain ⟨n, rfl⟩ : ∃ m, n = m + 1 := ⟨n - 1, by omega⟩
    obtain rfl : k = P.length := by omega
    rw [List.take_length]
    rw [wX_follow_88]
    dsimp only
    rw [q12, nI_clamp (by omega), ed_sp_get (by omega), h12]
    refine ⟨vp_in_nI (by omega) (by omega), br_t (Int32.le_refl _) (ed_bI_br (fun b => ?_) (fun b => ?_))⟩
    · subst b
      refine K qs lsk ⟨h12, by rw [if_neg (by decide)]; omega, fun i h => ?_⟩ (fun _ _ => rfl)
      have h' : i < P.length := h
      obtain ⟨a1, a2, a3⟩ := I i h'
      rw [if_pos h'] at a2 a3
      exact ⟨a1, a2, a3⟩
    · subst b
      simp (disch := omega) only [ed_lit, nI_add, pk_mul, pk_sub, Nat.add_assoc, Nat.add_zero, Nat.zero_add, Nat.reduceAdd, Nat.reduceSub, Nat.reduceMul, Nat.add_sub_cancel, ed_asub, ed_in, nI_clamp, true_and, and_true, ed_sp_get, ed_sp_get0, ed_sp_upd, ed_sp_upd0, forall_eq, forall_const, true_implies, false_implies, not_true_eq_false, not_false_eq_true, and_self]
      rw [Nat.add_comm P.length 64, Nat.add_comm P.length 128]
      refine K _ _ ⟨?_, ?_, fun i h => ?_⟩ (fun j hj => pk_un hj)
      · rw [pk_us, if_pos rfl, List.length_append, List.length_singleton]
      · rw [if_pos rfl, List.length_append, List.length_singleton]; omega
      · have h' : i < P.length + 1 := by rw [if_pos rfl, List.length_append, List.length_singleton] at h; exact h
        have e0 : (if true = true then P ++ [e] else P) = P ++ [e] := rfl
        by_cases a : i = P.length
        · subst a
          show upd (upd (upd lsk P.length (nI e)) (64 + P.length) (nI 1)) (128 + P.length) (nI 0) P.length = nI ((P ++ [e])[P.length]'(by simp)) ∧ upd (upd (upd lsk P.length (nI e)) (64 + P.length) (nI 1)) (128 + P.length) (nI 0) (64 + P.length) = nI (ep_op ty av stop M1 Ml eq (decide (C = 2)) once ((P ++ [e])[P.length]'(by simp)) (e + 1)) ∧ upd (upd (upd lsk P.length (nI e)) (64 + P.length) (nI 1)) (128 + P.length) (nI 0) (128 + P.length) = nI (ep_ro ty av stop M1 Ml eq (decide (C = 2)) once ((P ++ [e])[P.length]'(by simp)) (e + 1))
          rw [List.getElem_concat_length rfl, ep_new.1, ep_new.2]
          refine ⟨?_, ?_, pk_us⟩
          · rw [pk_un (by omega), pk_un (by omega), pk_us]
          · rw [pk_un (by omega), pk_us]
        · have h2 : i < P.length := by omega
          obtain ⟨a1, a2, a3⟩ := I i h2
          rw [if_pos h2] at a2 a3
          show upd (upd (upd lsk P.length (nI e)) (64 + P.length) (nI 1)) (128 + P.length) (nI 0) i = nI ((P ++ [e])[i]'(by simp; omega)) ∧ upd (upd (upd lsk P.length (nI e)) (64 + P.length) (nI 1)) (128 + P.length) (nI 0) (64 + i) = nI (ep_op ty av stop M1 Ml eq (decide (C = 2)) once ((P ++ [e])[i]'(by simp; omega)) (e + 1)) ∧ upd (upd (upd lsk P.length (nI e)) (64 + P.length) (nI 1)) (128 + P.length) (nI 0) (128 + i) = nI (ep_ro ty av stop M1 Ml eq (decide (C = 2)) once ((P ++ [e])[i]'(by simp; omega)) (e + 1))
          rw [List.getElem_append_left h2]
          refine ⟨?_, ?_, ?_⟩
          · rw [pk_un (by omega), pk_un (by omega), pk_un (by omega), a1]
          · rw [pk_un (by omega), pk_un (by omega), pk_un (by omega), a2]
          · rw [pk_un (by omega), pk_un (by omega), pk_un (by omega), a3]
  | succ d ih =>
    intro k lsk hk I n hn
    obtain ⟨n, rfl⟩ : ∃ m, n = m + 1 := ⟨n - 1, by omega⟩
    have hkl : k < P.length := by omega
    obtain ⟨c1, c2, c3⟩ := I k hkl
    rw [if_neg (by omega)] at c2 c3
    dsimp only at c2 c3
    have hx : P[k] < e := hm _ (List.getElem_mem hkl)
    have tk : ep_sum (P.take (k + 1)) (fun f => ep_vl ty av stop M1 Ml eq (decide (C = 2)) once f e) = ep_sum (P.take k) (fun f => ep_vl ty av stop M1 Ml eq (decide (C = 2)) once f e) + ep_vl ty av stop M1 Ml eq (decide (C = 2)) once P[k] e := by
      rw [List.take_add_one, List.getElem?_eq_getElem hkl]
      exact ep_sum_app
    have ih := ih (k + 1)
    rw [tk] at ih
    rw [wX_follow_88]
    dsimp only
    rw [q12, nI_clamp (by omega), ed_sp_get (by omega), h12, q5, nI_clamp (by omega), ed_sp_get (by omega), h5]
    refine ⟨vp_in_nI (by omega) (by omega), br_f (nI_ge hkl (by omega)) ⟨vp_in_nI (by omega) (by omega), ?_⟩⟩
    have bB : (!eq || av P[k] == av e) = true → wX_follow_156 post (wX_follow_88 post (nI s) (nI e) (nI (64 * s)) (nI (256 * s)) (nI C) (ed_bI fst) (ed_bI (M1 e)) (ed_bI (Ml e)) (ed_bI (ty e == stop)) n) (nI s) (nI e) (nI (64 * s)) (nI (256 * s)) (nI C)
        (nI (ep_sum (P.take k) (fun f => ep_vl ty av stop M1 Ml eq (decide (C = 2)) once f e))) (ed_bI fst) (ed_bI (M1 e)) (ed_bI (Ml e)) (ed_bI (ty e == stop)) (nI k) f_terms f_conditions f_happened f_waiting f_lost f_time f_all f_oldHappened f_oldLost f_oldTime f_oldAll f_kept a_termOp a_termValue a_askedCode a_code a_oldCode a_askedArg a_arg a_oldArg a_askedLength a_stack (ed_sp a_question (64 * s) 64 qs) a_oldQuestion (ed_sp a_list (256 * s) 256 lsk) a_oldList a_event a_oldEvent := by
      intro hB
      have ol := ep_op_le (ty := ty) (av := av) (stop := stop) (M1 := M1) (Ml := Ml) (eq := eq) (st2 := decide (C = 2)) (once := once) (f := P[k]) (e := e)
      have rl := ep_ro_le (ty := ty) (av := av) (stop := stop) (M1 := M1) (Ml := Ml) (eq := eq) (st2 := decide (C = 2)) (once := once) (f := P[k]) (e := e)
      refine xp_156 (en := ep_vl ty av stop M1 Ml eq (decide (C = 2)) once P[k] e) hs (by omega) hC h19 c2 c3 (by omega) (by omega) ?_ (fun hz ls' hc => ?_) (fun hz ls' hc => ?_)
      · rw [ep_vl_B hB]
        by_cases c : C = 2
        · rw [decide_eq_true c, if_pos c]; rfl
        · rw [decide_eq_false c, if_neg c]; rfl
      · have := ep_once hx hz.2 hz.1
        refine ih ls' (by omega) (xp_mid_step (by omega) hkl I ?_) n (by omega)
        rw [this.1, this.2]
        exact hc
      · refine ih ls' (by omega) (xp_mid_step (by omega) hkl I ?_) n (by omega)
        by_cases b : ty e = stop
        · rw [b, beq_self_eq_true, if_pos rfl, if_pos rfl] at hc
          rw [ep_op_brk hx b, ep_ro_Bb hx hB b hz]
          exact hc
        · rw [beq_false_of_ne b, if_neg (by decide), if_neg (by decide)] at hc
          rw [ep_op_B hx b hz, ep_ro_B hx hB b hz]
          exact hc
    refine ed_bI_br1 (fun b => ?_) (fun b => ?_)
    · have q0 : nI (256 * s) + 0 + nI k = nI (256 * s + k) := by rw [Int32.add_zero, nI_add]
      rw [q0, nI_clamp (by omega), ed_sp_get (by omega), c1]
      refine ⟨vp_in_nI (by omega) (by omega), xw_a (by omega) (xw_a (by omega) ?_)⟩
      rw [hav _ (by omega), hav _ (by omega)]
      refine br_c (fun c => bB (by rw [b, c]; simp)) (fun c => ?_)
      have hA : (!eq || av P[k] == av e) = false := by rw [b, beq_false_of_ne c]; rfl
      rw [ep_vl_A hA, Nat.add_zero] at ih
      refine ed_bI_br (fun z => ?_) (fun z => ?_)
      · have z : ty e ≠ stop := by simpa using z
        exact nm_r (nI_1 _) (ih lsk (by omega) (xp_mid_same (by omega) hkl I (ep_op_A hx hA z) (ep_ro_A hx hA z)) n (by omega))
      · have z : ty e = stop := by simpa using z
        refine xp_cut (mo := 0) hs (by omega) (fun ls' hc => nm_r (nI_1 _) (ih ls' (by omega) (xp_mid_step (by omega) hkl I ?_) n (by omega)))
        rw [ep_op_brk hx z, ep_ro_Ab hx hA z]
        exact hc
    · exact bB (by rw [b]; rfl)
end
end
section
/-! the component's conditions, and follow as a whole -/
def xc_ok (cd ar qs : Nat → Int32) (s C : Nat) (Mc : Nat → (Nat → Int32) → Bool) : Prop :=
  ∀ c, c < C → ∃ n, qs (16 + c) = nI n ∧ n ≤ 12 ∧ (∀ i, i < n → ∃ o, o ≤ 33 ∧ cd (36 * s + 12 * c + i) = nI o) ∧ ∀ fe, ∃ v, ec_run fe (fun i => cd (36 * s + 12 * c + i)) (fun i => ar (36 * s + 12 * c + i)) n = some [v] ∧ Mc c fe = decide (v ≠ 0)
theorem xc_ok_same {cd ar qs qs' : Nat → Int32} {s C : Nat} {Mc : Nat → (Nat → Int32) → Bool} (hC : C ≤ 3) (h : xc_ok cd ar qs s C Mc) (e : ∀ j, 16 ≤ j → j < 19 → qs' j = qs j) : xc_ok cd ar qs' s C Mc := by
  intro c hc
  obtain ⟨n, a, b⟩ := h c hc
  exact ⟨n, (e _ (by omega) (by omega)).trans a, b⟩
section
variable {f_terms f_conditions f_happened f_waiting f_lost f_time f_all f_oldHappened f_oldLost f_oldTime f_oldAll f_kept : Int32} {a_termOp a_termValue a_askedCode a_code a_oldCode a_askedArg a_arg a_oldArg a_askedLength a_stack a_question a_oldQuestion a_list a_oldList a_event a_oldEvent : Nat → Int32} {qs ls : Nat → Int32} {s e c C : Nat} {Mc : Nat → (Nat → Int32) → Bool} {fe : Nat → Int32}
theorem xs_meets {post : Int32 → SX → Prop} (hs : s < 6) (hc : c < C) (hC : C ≤ 3) (ok : xc_ok a_code a_arg qs s C Mc) (he : e < 64) (hfe : ∀ i, i < 4 → a_event (4 * e + i) = fe i) (hp : ∀ stk, post (ed_bI (Mc c fe)) (f_terms, f_conditions, f_happened, f_waiting, f_lost, f_time, f_all, f_oldHappened, f_oldLost, f_oldTime, f_oldAll, f_kept, a_termOp, a_termValue, a_askedCode, a_code, a_oldCode, a_askedArg, a_arg, a_oldArg, a_askedLength, stk, (ed_sp a_question (64 * s) 64 qs), a_oldQuestion, (ed_sp a_list (256 * s) 256 ls), a_oldList, a_event, a_oldEvent)) : wpX_meets post (f_terms, f_conditions, f_happened, f_waiting, f_lost, f_time, f_all, f_oldHappened, f_oldLost, f_oldTime, f_oldAll, f_kept, a_termOp, a_termValue, a_askedCode, a_code, a_oldCode, a_askedArg, a_arg, a_oldArg, a_askedLength, a_stack, (ed_sp a_question (64 * s) 64 qs), a_oldQuestion, (ed_sp a_list (256 * s) 256 ls), a_oldList, a_event, a_oldEvent) (nI s) (nI c) (nI e) := by
  obtain ⟨n, a, b, d, f⟩ := ok c hc
  obtain ⟨v, g1, g2⟩ := f fe
  have hv : (if v = 0 then 0 else 1 : Int32) = ed_bI (Mc c fe) := by
    rw [g2]
    by_cases z : v = 0
    · rw [if_pos z, decide_eq_false (fun q => q z)]; rfl
    · rw [if_neg z, decide_eq_true z]; rfl
  refine xm_meets (fe := fe) (N := n) (v := v) hs (by omega) he b hfe ?_ d g1 (fun stk => ?_)
  · rw [Nat.add_assoc, ed_sp_get (by omega), a]
  · rw [hv]; exact hp stk
end
def xp_inv (ty av : Nat → Int32) (stop : Int32) (M0 M1 Ml : Nat → Bool) (tm : Nat → Nat) (eq st2 once : Bool) (N F H T : Nat) (qs ls : Nat → Int32) : Prop :=
  ∃ P T0, T0 ≤ T ∧ P = ed_ms (fun f => M0 f && decide (T0 - tm f < N)) F H ∧ xp_rep qs ls P (fun f => ep_op ty av stop M1 Ml eq st2 once f H) (fun f => ep_ro ty av stop M1 Ml eq st2 once f H)
def ep_n (ty av : Nat → Int32) (stop : Int32) (M0 M1 Ml : Nat → Bool) (tm : Nat → Nat) (eq st2 once : Bool) (N F e : Nat) : Nat :=
  ep_sum (ed_ms (fun f => M0 f && decide (tm e - tm f < N)) F e) (fun f => ep_vl ty av stop M1 Ml eq st2 once f e)
theorem ep_n_le {ty av : Nat → Int32} {stop : Int32} {M0 M1 Ml : Nat → Bool} {tm : Nat → Nat} {eq st2 once : Bool} {N F e : Nat} (he : e < 64) : ep_n ty av stop M0 M1 Ml tm eq st2 once N F e ≤ 4096 := by
  unfold ep_n
  have l := ed_ms_len (M := fun f => M0 f && decide (tm e - tm f < N)) (a := F) (b := e)
  have h := ep_sum_le (P := ed_ms (fun f => M0 f && decide (tm e - tm f < N)) F e) (g := fun f => ep_vl ty av stop M1 Ml eq st2 once f e) (b := 64) (fun x hx => by
    have := (ed_ms_mem.mp hx).1.2
    have := ep_vl_le (ty := ty) (av := av) (stop := stop) (M1 := M1) (Ml := Ml) (eq := eq) (st2 := st2) (once := once) (f := x) (e := e) (by omega)
    omega)
  have : (ed_ms (fun f => M0 f && decide (tm e - tm f < N)) F e).length * 64 ≤ 64 * 64 := Nat.mul_le_mul_right 64 (by omega)
  omega
section
variable {f_terms f_conditions f_happened f_waiting f_lost f_time f_all f_oldHappened f_oldLost f_oldTime f_oldAll f_kept : Int32} {a_termOp a_termValue a_askedCode a_code a_oldCode a_askedArg a_arg a_oldArg a_askedLength a_stack a_question a_oldQuestion a_list a_oldList a_event a_oldEvent : Nat → Int32} {qs ls : Nat → Int32} {s e c C N F T : Nat} {Mc : Nat → (Nat → Int32) → Bool} {fe : Nat → Int32} {ty av : Nat → Int32} {stop : Int32} {M0 M1 Ml : Nat → Bool} {tm : Nat → Nat} {eq once : Bool} {post : SX → Prop}
theorem xp_follow (hs : s < 6) (he : e < 64) (hF : F ≤ e) (hC2 : 2 ≤ C) (hC : C ≤ 3) (ok : xc_ok a_code a_arg qs s C Mc) (hfe : ∀ i, i < 4 → a_event (4 * e + i) = fe i) (hav : ∀ k, k < e + 1 → a_event (4 * k + 1) = av k) (htm : ∀ k, k < e + 1 → a_event (4 * k + 3) = nI (tm k))
    (hty : a_event (4 * e) = ty e) (hmono : ∀ a b, a ≤ b → b < e + 1 → tm a ≤ tm b) (hte : tm e = T) (hT : T < 2 ^ 31) (hft : f_time = nI T) (h2 : qs 2 = nI N) (hN1 : 1 ≤ N) (hN2 : N ≤ 1000) (h5 : qs 5 = ed_bI eq) (h6 : qs 6 = stop) (h15 : qs 15 = nI C) (h19 : qs 19 = ed_bI once)
    (m0 : M0 e = Mc 0 fe) (m1 : M1 e = Mc 1 fe) (ml : Ml e = Mc (C - 1) fe) (I : xp_inv ty av stop M0 M1 Ml tm eq (decide (C = 2)) once N F e T qs ls)
    (hp0 : ep_n ty av stop M0 M1 Ml tm eq (decide (C = 2)) once N F e = 0 → ∀ stk qs' ls', xp_inv ty av stop M0 M1 Ml tm eq (decide (C = 2)) once N F (e + 1) T qs' ls' → (∀ j, j ≠ 12 → qs' j = qs j) → post (f_terms, f_conditions, f_happened, f_waiting, f_lost, f_time, f_all, f_oldHappened, f_oldLost, f_oldTime, f_oldAll, f_kept, a_termOp, a_termValue, a_askedCode, a_code, a_oldCode, a_askedArg, a_arg, a_oldArg, a_askedLength, stk, (ed_sp a_question (64 * s) 64 qs'), a_oldQuestion, (ed_sp a_list (256 * s) 256 ls'), a_oldList, a_event, a_oldEvent))
    (hp1 : 0 < ep_n ty av stop M0 M1 Ml tm eq (decide (C = 2)) once N F e → ∀ stk qs' ls', xp_inv ty av stop M0 M1 Ml tm eq (decide (C = 2)) once N F (e + 1) T qs' ls' → (∀ j, j ≠ 12 → qs' j = qs j) →
      wpX_put post (f_terms, f_conditions, f_happened, f_waiting, f_lost, f_time, f_all, f_oldHappened, f_oldLost, f_oldTime, f_oldAll, f_kept, a_termOp, a_termValue, a_askedCode, a_code, a_oldCode, a_askedArg, a_arg, a_oldArg, a_askedLength, stk, (ed_sp a_question (64 * s) 64 qs'), a_oldQuestion, (ed_sp a_list (256 * s) 256 ls'), a_oldList, a_event, a_oldEvent) (nI s) (nI (ep_n ty av stop M0 M1 Ml tm eq (decide (C = 2)) once N F e))) :
    wpX_follow post (f_terms, f_conditions, f_happened, f_waiting, f_lost, f_time, f_all, f_oldHappened, f_oldLost, f_oldTime, f_oldAll, f_kept, a_termOp, a_termValue, a_askedCode, a_code, a_oldCode, a_askedArg, a_arg, a_oldArg, a_askedLength, a_stack, (ed_sp a_question (64 * s) 64 qs), a_oldQuestion, (ed_sp a_list (256 * s) 256 ls), a_oldList, a_event, a_oldEvent) (nI s) (nI e) := by
  obtain ⟨P, T0, hT0, hP, R⟩ := I
  have hm : ∀ k ∈ P, k < e := fun k hk => by rw [hP] at hk; exact (ed_ms_mem.mp hk).1.2
  have htT : ∀ k, k < e → tm k ≤ T := fun k hk => by rw [← hte]; exact hmono k e (by omega) (by omega)
  have hP' : P.filter (fun k => decide (T - tm k < N)) = ed_ms (fun f => M0 f && decide (tm e - tm f < N)) F e := by
    rw [hP, hte]
    unfold ed_ms
    rw [List.filter_filter]
    refine List.filter_congr (fun k _ => ?_)
    by_cases d : T - tm k < N
    · rw [decide_eq_true d, decide_eq_true (show T0 - tm k < N by omega)]; cases M0 k <;> rfl
    · rw [decide_eq_false d]; cases M0 k <;> rfl
  have q0 : (64 : Int32) * nI s = nI (64 * s) := by rw [← pk_mul]; rfl
  have q1 : (256 : Int32) * nI s = nI (256 * s) := by rw [← pk_mul]; rfl
  have q15 : nI (64 * s) + 15 = nI (64 * s + 15) := nI_add _ 15
  have q6 : nI (64 * s) + 6 = nI (64 * s + 6) := nI_add _ 6
  have qC : nI C - 1 = nI (C - 1) := pk_sub (b := 1) (by omega)
  have nle := ep_n_le (ty := ty) (av := av) (stop := stop) (M0 := M0) (M1 := M1) (Ml := Ml) (tm := tm) (eq := eq) (st2 := decide (C = 2)) (once := once) (N := N) (F := F) he
  unfold wpX_follow
  refine nm_r q0 (nm_r q1 ?_)
  rw [q15, nI_clamp (by omega), ed_sp_get (by omega), h15]
  refine ⟨vp_in_nI (by omega) (by omega), nm_e ?_⟩
  refine xs_meets (c := 0) hs (by omega) hC ok he hfe (fun stk1 => ?_)
  refine xs_meets (c := 1) hs (by omega) hC ok he hfe (fun stk2 => ?_)
  rw [qC]
  refine xs_meets (c := C - 1) hs (by omega) hC ok he hfe (fun stk3 => ?_)
  dsimp only
  rw [q6, nI_clamp (by omega), ed_sp_get (by omega), h6]
  refine ⟨vp_in_nI (by omega) (by omega), xw_t he ?_⟩
  rw [hty]
  have fin : wX_follow_78 post (nI s) (nI e) (nI (64 * s)) (nI (256 * s)) (nI C) 0 (ed_bI (Mc 0 fe)) (ed_bI (Mc 1 fe)) (ed_bI (Mc (C - 1) fe)) (ed_bI (ty e == stop)) f_terms f_conditions f_happened f_waiting f_lost f_time f_all f_oldHappened f_oldLost f_oldTime f_oldAll f_kept a_termOp a_termValue a_askedCode a_code a_oldCode a_askedArg a_arg a_oldArg a_askedLength stk3 (ed_sp a_question (64 * s) 64 qs) a_oldQuestion (ed_sp a_list (256 * s) 256 ls) a_oldList a_event a_oldEvent := by
    unfold wX_follow_78
    refine xp_forget (N := N) hs (by omega) (fun k hk => htm k (by omega)) htT hT hft (by omega) h2 R hm (fun ls' R' => ?_)
    rw [hP'] at R' ⊢
    generalize hQ : ed_ms (fun f => M0 f && decide (tm e - tm f < N)) F e = Q at R' ⊢
    have hQm : ∀ f ∈ Q, f < e := fun f hf => by rw [← hQ] at hf; exact (ed_ms_mem.mp hf).1.2
    have hQl : Q.length < 64 := by
      have l := ed_ms_len (M := fun f => M0 f && decide (tm e - tm f < N)) (a := F) (b := e)
      rw [hQ] at l
      omega
    have hn : ep_sum Q (fun f => ep_vl ty av stop M1 Ml eq (decide (C = 2)) once f e) = ep_n ty av stop M0 M1 Ml tm eq (decide (C = 2)) once N F e := by rw [← hQ]; rfl
    refine ⟨Q.length + 1, ?_⟩
    rw [← m1, ← ml]
    refine xp_loop (qs := upd qs 12 (nI Q.length)) (P := Q) hs he (by omega) hav h5 R'.1 h19 hQl hQm (fun qs2 ls2 R2 sm => ?_) Q.length 0 ls' (by omega) (fun i h => ?_) (Q.length + 1) (by omega)
    · have inv : xp_inv ty av stop M0 M1 Ml tm eq (decide (C = 2)) once N F (e + 1) T qs2 ls2 := by
        refine ⟨_, T, Nat.le_refl T, ?_, R2⟩
        rw [← m0]
        cases m : M0 e with
        | true =>
          rw [if_pos rfl, ed_ms_t hF (by rw [m, hte, Nat.sub_self, decide_eq_true (by omega)]; rfl), ← hQ, hte]
        | false =>
          rw [if_neg (by decide), ed_ms_f hF (by rw [m]; rfl), ← hQ, hte]
      have sm' : ∀ j, j ≠ 12 → qs2 j = qs j := fun j hj => (sm j hj).trans (pk_un hj)
      rw [hn]
      unfold wX_follow_363
      refine pk_le (ep_n ty av stop M0 M1 Ml tm eq (decide (C = 2)) once N F e) 0 (fun z => ?_) (fun z => ?_)
      · exact hp0 (by omega) stk3 qs2 ls2 inv sm'
      · exact hp1 z stk3 qs2 ls2 inv sm'
    · obtain ⟨a1, a2, a3⟩ := R'.2.2 i h
      exact ⟨a1, by rw [if_neg (by omega)]; exact a2, by rw [if_neg (by omega)]; exact a3⟩
  refine br_c (fun b => ?_) (fun b => ?_)
  · rw [beq_iff_eq.mpr b.symm] at fin; exact fin
  · rw [beq_false_of_ne (fun z => b z.symm)] at fin; exact fin
end
end
section
/-! the component's joins -/
def xj_rep (qs ls : Nat → Int32) (sd ba : Nat) (R : List Nat) (hd : Nat) : Prop :=
  qs sd = nI hd ∧ qs (sd + 1) = nI R.length ∧ hd < 16 ∧ R.length ≤ 16 ∧ ∀ i (h : i < R.length), ls (ba + (hd + i) % 16) = nI R[i]
theorem xj_rep_same {qs qs' ls ls' : Nat → Int32} {sd ba hd : Nat} {R : List Nat} (h : xj_rep qs ls sd ba R hd) (e1 : qs' sd = qs sd) (e2 : qs' (sd + 1) = qs (sd + 1)) (e3 : ∀ j, ba ≤ j → j < ba + 16 → ls' j = ls j) : xj_rep qs' ls' sd ba R hd :=
  ⟨e1.trans h.1, e2.trans h.2.1, h.2.2.1, h.2.2.2.1, fun i hi => (e3 _ (by omega) (by omega)).trans (h.2.2.2.2 i hi)⟩
/-- what an event e adds to the sum of a join -/
def ej_p (av : Nat → Int32) (e k : Nat) : Bool := !(k == e) && av k == av e
section
variable {f_terms f_conditions f_happened f_waiting f_lost f_time f_all f_oldHappened f_oldLost f_oldTime f_oldAll f_kept : Int32} {a_termOp a_termValue a_askedCode a_code a_oldCode a_askedArg a_arg a_oldArg a_askedLength a_stack a_question a_oldQuestion a_list a_oldList a_event a_oldEvent : Nat → Int32} {qs ls : Nat → Int32} {s e n sd ba hd : Nat} {R : List Nat} {av bv : Nat → Int32} {post : SX → Prop}
theorem xj_76 (hs : s < 6) (hsd : sd < 60) (hba : ba + 16 ≤ 256) (h : xj_rep qs ls sd ba R hd) (hl : R.length < 16)
    (hp : ∀ qs' ls', xj_rep qs' ls' sd ba (R ++ [e]) hd → (∀ j, j ≠ sd → j ≠ sd + 1 → qs' j = qs j) → (∀ j, j < ba ∨ ba + 16 ≤ j → ls' j = ls j) → post (f_terms, f_conditions, f_happened, f_waiting, f_lost, f_time, f_all, f_oldHappened, f_oldLost, f_oldTime, f_oldAll, f_kept, a_termOp, a_termValue, a_askedCode, a_code, a_oldCode, a_askedArg, a_arg, a_oldArg, a_askedLength, a_stack, (ed_sp a_question (64 * s) 64 qs'), a_oldQuestion, (ed_sp a_list (256 * s) 256 ls'), a_oldList, a_event, a_oldEvent)) :
    wX_ring_76 post (nI e) (nI (64 * s + sd)) (nI (256 * s + ba)) f_terms f_conditions f_happened f_waiting f_lost f_time f_all f_oldHappened f_oldLost f_oldTime f_oldAll f_kept a_termOp a_termValue a_askedCode a_code a_oldCode a_askedArg a_arg a_oldArg a_askedLength a_stack (ed_sp a_question (64 * s) 64 qs) a_oldQuestion (ed_sp a_list (256 * s) 256 ls) a_oldList a_event a_oldEvent := by
  obtain ⟨h0, h1, h16, hR16, hR⟩ := h
  unfold wX_ring_76
  simp (disch := omega) only [ed_lit, nI_add, pk_mul, pk_sub, Nat.add_assoc, Nat.add_zero, Nat.zero_add, Nat.reduceAdd, Nat.reduceSub, Nat.reduceMul, Nat.add_sub_cancel, ed_asub, ed_in, nI_clamp, true_and, and_true, ed_sp_get, ed_sp_get0, ed_sp_upd, ed_sp_upd0, forall_eq, forall_const, true_implies, false_implies, not_true_eq_false, not_false_eq_true, and_self, h0, h1, ed_and15]
  refine hp _ _ ⟨(pk_un (by omega)).trans h0, ?_, h16, ?_, fun i hi => ?_⟩ (fun j a b => pk_un b) (fun j hj => pk_un (by omega))
  · rw [pk_us, List.length_append, List.length_singleton]
  · rw [List.length_append, List.length_singleton]; omega
  · rw [List.length_append, List.length_singleton] at hi
    by_cases a : i = R.length
    · subst a
      rw [pk_us, List.getElem_concat_length rfl]
    · rw [pk_un (by omega), List.getElem_append_left (by omega), hR i (by omega)]
theorem xj_28 {z0 : Int32} (hs : s < 6) (hsd : sd < 60) (hba : ba + 16 ≤ 256) (h : xj_rep qs ls sd ba R hd) (hn1 : 1 ≤ n) (hn2 : n ≤ 16) (hl : R.length ≤ n) (hz : z0 = nI ba)
    (hp : ∀ qs' ls' hd', xj_rep qs' ls' sd ba ((if R.length = n then R.tail else R) ++ [e]) hd' → (∀ j, j ≠ sd → j ≠ sd + 1 → qs' j = qs j) → (∀ j, j < ba ∨ ba + 16 ≤ j → ls' j = ls j) → post (f_terms, f_conditions, f_happened, f_waiting, f_lost, f_time, f_all, f_oldHappened, f_oldLost, f_oldTime, f_oldAll, f_kept, a_termOp, a_termValue, a_askedCode, a_code, a_oldCode, a_askedArg, a_arg, a_oldArg, a_askedLength, a_stack, (ed_sp a_question (64 * s) 64 qs'), a_oldQuestion, (ed_sp a_list (256 * s) 256 ls'), a_oldList, a_event, a_oldEvent)) :
    wX_ring_28 post (nI n) (nI e) (nI (64 * s + sd)) z0 (nI (256 * s)) f_terms f_conditions f_happened f_waiting f_lost f_time f_all f_oldHappened f_oldLost f_oldTime f_oldAll f_kept a_termOp a_termValue a_askedCode a_code a_oldCode a_askedArg a_arg a_oldArg a_askedLength a_stack (ed_sp a_question (64 * s) 64 qs) a_oldQuestion (ed_sp a_list (256 * s) 256 ls) a_oldList a_event a_oldEvent := by
  have h' := h
  obtain ⟨h0, h1, h16, hR16, hR⟩ := h
  subst hz
  unfold wX_ring_28
  refine nm_r (nI_add _ _) ?_
  have q1 : nI (64 * s + sd) + 1 = nI (64 * s + (sd + 1)) := nI_1 _
  rw [q1, nI_clamp (by omega), ed_sp_get (by omega), h1]
  refine ⟨vp_in_nI (by omega) (by omega), pk_eq R.length n (fun c => ?_) (fun c => ?_)⟩
  · cases hq : R with
    | nil => rw [hq] at c; simp at c; omega
    | cons x R' =>
      subst hq
      rw [if_pos c] at hp
      have g1 : upd qs sd (nI ((hd + 1) % 16)) (sd + 1) = nI (R'.length + 1) := (pk_un (by omega)).trans h1
      simp (disch := omega) only [ed_lit, nI_add, pk_mul, pk_sub, Nat.add_assoc, Nat.add_zero, Nat.zero_add, Nat.reduceAdd, Nat.reduceSub, Nat.reduceMul, Nat.add_sub_cancel, ed_asub, ed_in, nI_clamp, true_and, and_true, ed_sp_get, ed_sp_get0, ed_sp_upd, ed_sp_upd0, forall_eq, forall_const, true_implies, false_implies, not_true_eq_false, not_false_eq_true, and_self, h0, ed_and15, g1]
      refine xj_76 (R := R') (hd := (hd + 1) % 16) hs hsd hba ⟨?_, pk_us, by omega, ?_, fun i hi => ?_⟩ ?_ (fun qs' ls' a b d => hp qs' ls' _ a (fun j h1 h2 => (b j h1 h2).trans ((pk_un h2).trans (pk_un h1))) d)
      · rw [pk_un (by omega), pk_us]
      · rw [List.length_cons] at hR16; omega
      · have := hR (i + 1) (by rw [List.length_cons]; omega)
        rw [show ba + ((hd + 1) % 16 + i) % 16 = ba + (hd + (i + 1)) % 16 by omega]
        exact this
      · rw [List.length_cons] at hR16; omega
  · rw [if_neg c] at hp
    exact xj_76 hs hsd hba h' (by omega) (fun qs' ls' a b d => hp qs' ls' _ a b d)
theorem xj_ringL (hs : s < 6) (h : xj_rep qs ls 36 192 R hd) (hn1 : 1 ≤ n) (hn2 : n ≤ 16) (hl : R.length ≤ n)
    (hp : ∀ qs' ls' hd', xj_rep qs' ls' 36 192 ((if R.length = n then R.tail else R) ++ [e]) hd' → (∀ j, j ≠ 36 → j ≠ 37 → qs' j = qs j) → (∀ j, j < 192 ∨ 208 ≤ j → ls' j = ls j) → post (f_terms, f_conditions, f_happened, f_waiting, f_lost, f_time, f_all, f_oldHappened, f_oldLost, f_oldTime, f_oldAll, f_kept, a_termOp, a_termValue, a_askedCode, a_code, a_oldCode, a_askedArg, a_arg, a_oldArg, a_askedLength, a_stack, (ed_sp a_question (64 * s) 64 qs'), a_oldQuestion, (ed_sp a_list (256 * s) 256 ls'), a_oldList, a_event, a_oldEvent)) :
    wpX_ring post (f_terms, f_conditions, f_happened, f_waiting, f_lost, f_time, f_all, f_oldHappened, f_oldLost, f_oldTime, f_oldAll, f_kept, a_termOp, a_termValue, a_askedCode, a_code, a_oldCode, a_askedArg, a_arg, a_oldArg, a_askedLength, a_stack, (ed_sp a_question (64 * s) 64 qs), a_oldQuestion, (ed_sp a_list (256 * s) 256 ls), a_oldList, a_event, a_oldEvent) (nI s) 36 (nI n) (nI e) := by
  have q0 : (64 : Int32) * nI s + 36 = nI (64 * s + 36) := by rw [← nI_add, ← pk_mul]; rfl
  have q1 : (256 : Int32) * nI s = nI (256 * s) := by rw [← pk_mul]; rfl
  unfold wpX_ring
  refine nm_r q0 (br_t rfl ?_)
  rw [q1]
  exact xj_28 hs (by decide) (by decide) h hn1 hn2 hl rfl hp
theorem xj_ringR (hs : s < 6) (h : xj_rep qs ls 38 208 R hd) (hn1 : 1 ≤ n) (hn2 : n ≤ 16) (hl : R.length ≤ n)
    (hp : ∀ qs' ls' hd', xj_rep qs' ls' 38 208 ((if R.length = n then R.tail else R) ++ [e]) hd' → (∀ j, j ≠ 38 → j ≠ 39 → qs' j = qs j) → (∀ j, j < 208 ∨ 224 ≤ j → ls' j = ls j) → post (f_terms, f_conditions, f_happened, f_waiting, f_lost, f_time, f_all, f_oldHappened, f_oldLost, f_oldTime, f_oldAll, f_kept, a_termOp, a_termValue, a_askedCode, a_code, a_oldCode, a_askedArg, a_arg, a_oldArg, a_askedLength, a_stack, (ed_sp a_question (64 * s) 64 qs'), a_oldQuestion, (ed_sp a_list (256 * s) 256 ls'), a_oldList, a_event, a_oldEvent)) :
    wpX_ring post (f_terms, f_conditions, f_happened, f_waiting, f_lost, f_time, f_all, f_oldHappened, f_oldLost, f_oldTime, f_oldAll, f_kept, a_termOp, a_termValue, a_askedCode, a_code, a_oldCode, a_askedArg, a_arg, a_oldArg, a_askedLength, a_stack, (ed_sp a_question (64 * s) 64 qs), a_oldQuestion, (ed_sp a_list (256 * s) 256 ls), a_oldList, a_event, a_oldEvent) (nI s) 38 (nI n) (nI e) := by
  have q0 : (64 : Int32) * nI s + 38 = nI (64 * s + 38) := by rw [← nI_add, ← pk_mul]; rfl
  have q1 : (256 : Int32) * nI s = nI (256 * s) := by rw [← pk_mul]; rfl
  unfold wpX_ring
  refine nm_r q0 (br_f (by decide) ?_)
  rw [q1]
  exact xj_28 hs (by decide) (by decide) h hn1 hn2 hl rfl hp
theorem xj_loop (hs : s < 6) (he : e < 64) (hsd : sd < 60) (hba : ba + 16 ≤ 256) (hav : ∀ k, k < e + 1 → a_event (4 * k + 1) = av k) (hbv : ∀ k, k < e + 1 → a_event (4 * k + 2) = bv k) (h : xj_rep qs ls sd ba R hd) (hm : ∀ k ∈ R, k < e + 1)
    (hp0 : (R.filter (ej_p av e)).length = 0 → post (f_terms, f_conditions, f_happened, f_waiting, f_lost, f_time, f_all, f_oldHappened, f_oldLost, f_oldTime, f_oldAll, f_kept, a_termOp, a_termValue, a_askedCode, a_code, a_oldCode, a_askedArg, a_arg, a_oldArg, a_askedLength, a_stack, (ed_sp a_question (64 * s) 64 qs), a_oldQuestion, (ed_sp a_list (256 * s) 256 ls), a_oldList, a_event, a_oldEvent)) (hp1 : 0 < (R.filter (ej_p av e)).length → wpX_put post (f_terms, f_conditions, f_happened, f_waiting, f_lost, f_time, f_all, f_oldHappened, f_oldLost, f_oldTime, f_oldAll, f_kept, a_termOp, a_termValue, a_askedCode, a_code, a_oldCode, a_askedArg, a_arg, a_oldArg, a_askedLength, a_stack, (ed_sp a_question (64 * s) 64 qs), a_oldQuestion, (ed_sp a_list (256 * s) 256 ls), a_oldList, a_event, a_oldEvent) (nI s) (ed_sm ((R.filter (ej_p av e)).map bv))) :
    ∀ d k, k + d = R.length → ∀ n, d < n → wX_pair_121 post (nI s) (nI e) (nI (64 * s)) (nI sd) (nI (256 * s + ba)) f_terms f_conditions f_happened f_waiting f_lost f_time f_all f_oldHappened f_oldLost f_oldTime f_oldAll f_kept a_termOp a_termValue a_askedCode a_code a_oldCode a_askedArg a_arg a_oldArg a_askedLength a_stack (ed_sp a_question (64 * s) 64 qs) a_oldQuestion (ed_sp a_list (256 * s) 256 ls) a_oldList a_event a_oldEvent n (nI ((R.take k).filter (ej_p av e)).length) (ed_sm (((R.take k).filter (ej_p av e)).map bv)) (nI k) := by
  obtain ⟨h0, h1, h16, hR16, hR⟩ := h
  have q0 : nI (64 * s) + nI sd = nI (64 * s + sd) := nI_add _ _
  have q1 : nI (64 * s + sd) + 1 = nI (64 * s + (sd + 1)) := nI_1 _
  intro d
  induction d with
  | zero =>
    intro k hk n hn
    obtain ⟨n, rfl⟩ : ∃ m, n = m + 1 := ⟨n - 1, by omega⟩
    obtain rfl : k = R.length := by omega
    rw [List.take_length]
    have lf := List.length_filter_le (ej_p av e) R
    rw [wX_pair_121]
    dsimp only
    rw [q0, q1, nI_clamp (by omega), ed_sp_get (by omega), h1]
    refine ⟨vp_in_nI (by omega) (by omega), br_t (Int32.le_refl _) (pk_le (R.filter (ej_p av e)).length 0 (fun c => hp0 (by omega)) (fun c => hp1 c))⟩
  | succ d ih =>
    intro k hk n hn
    obtain ⟨n, rfl⟩ : ∃ m, n = m + 1 := ⟨n - 1, by omega⟩
    have hkl : k < R.length := by omega
    have hx : R[k] < e + 1 := hm _ (List.getElem_mem hkl)
    have tk : R.take (k + 1) = R.take k ++ [R[k]] := by rw [List.take_add_one, List.getElem?_eq_getElem hkl]; rfl
    have ih := ih (k + 1) (by omega) n (by omega)
    rw [tk, List.filter_append] at ih
    rw [wX_pair_121]
    dsimp only
    have ix : nI (256 * s + ba) + ((nI hd + nI k) &&& 15) = nI (256 * s + (ba + (hd + k) % 16)) := by
      rw [nI_add, show (15 : Int32) = nI 15 from rfl, ed_and15 (by omega), nI_add, Nat.add_assoc]
    rw [q0, q1, nI_clamp (by omega), nI_clamp (by omega), ed_sp_get (by omega), ed_sp_get (by omega), h1, h0, ix, nI_clamp (by omega), ed_sp_get (by omega), hR k hkl]
    refine ⟨vp_in_nI (by omega) (by omega), br_f (nI_ge hkl (by omega)) ⟨vp_in_nI (by omega) (by omega), vp_in_nI (by omega) (by omega), nm_e (pk_eq R[k] e (fun c => ?_) (fun c => ?_))⟩⟩
    · have z : ej_p av e R[k] = false := by unfold ej_p; rw [c]; simp
      rw [List.filter_cons_of_neg (by rw [z]; decide), List.filter_nil, List.append_nil] at ih
      exact nm_r (nI_1 _) ih
    · refine xw_a (by omega) (xw_a (by omega) ?_)
      rw [hav _ hx, hav _ (by omega)]
      refine br_c (fun g => ?_) (fun g => ?_)
      · have z : ej_p av e R[k] = true := by unfold ej_p; rw [g, beq_false_of_ne c]; simp
        rw [List.filter_cons_of_pos z, List.filter_nil, List.length_append, List.map_append] at ih
        refine nm_r (nI_1 _) (xw_b (by omega) ?_)
        rw [hbv _ hx]
        refine nm_r ?_ (nm_r (nI_1 _) ih)
        exact ed_sm_app.symm
      · have z : ej_p av e R[k] = false := by unfold ej_p; rw [beq_false_of_ne g]; simp
        rw [List.filter_cons_of_neg (by rw [z]; decide), List.filter_nil, List.append_nil] at ih
        exact nm_r (nI_1 _) ih
end
end
section
/-! pair as a whole -/
theorem ed_la_snoc {n e : Nat} {l : List Nat} (hn : 1 ≤ n) : (if (ed_la n l).length = n then (ed_la n l).tail else ed_la n l) ++ [e] = ed_la n (l ++ [e]) := by
  obtain ⟨n, rfl⟩ : ∃ j, n = j + 1 := ⟨n - 1, by omega⟩
  rw [ed_la_app]
  have hl := ed_la_len (n := n + 1) (l := l)
  by_cases c : (ed_la (n + 1) l).length = n + 1
  · rw [if_pos c, ed_la_tail (by omega)]
  · rw [if_neg c, ed_la_all (by omega), ed_la_all (by omega)]
def xj_inv (M0 M1 : Nat → Bool) (n m F H : Nat) (qs ls : Nat → Int32) : Prop :=
  (∃ h1, xj_rep qs ls 36 192 (ed_la n (ed_ms M0 F H)) h1) ∧ (∃ h2, xj_rep qs ls 38 208 (ed_la m (ed_ms M1 F H)) h2)
def ej_J (M0 M1 : Nat → Bool) (av : Nat → Int32) (n m F e : Nat) : List Nat :=
  if (M0 e || M1 e) = true then (if M0 e = true then ed_la m (ed_ms M1 F (e + 1)) else ed_la n (ed_ms M0 F (e + 1))).filter (ej_p av e) else []
section
variable {f_terms f_conditions f_happened f_waiting f_lost f_time f_all f_oldHappened f_oldLost f_oldTime f_oldAll f_kept : Int32} {a_termOp a_termValue a_askedCode a_code a_oldCode a_askedArg a_arg a_oldArg a_askedLength a_stack a_question a_oldQuestion a_list a_oldList a_event a_oldEvent : Nat → Int32} {qs ls : Nat → Int32} {s e n m F C : Nat} {M0 M1 : Nat → Bool} {Mc : Nat → (Nat → Int32) → Bool} {fe : Nat → Int32} {av bv : Nat → Int32} {post : SX → Prop}
theorem xj_65 (hs : s < 6) (he : e < 64) (hF : F ≤ e) (hav : ∀ k, k < e + 1 → a_event (4 * k + 1) = av k) (hbv : ∀ k, k < e + 1 → a_event (4 * k + 2) = bv k) (I : xj_inv M0 M1 n m F (e + 1) qs ls)
    (hp0 : (ej_J M0 M1 av n m F e).length = 0 → post (f_terms, f_conditions, f_happened, f_waiting, f_lost, f_time, f_all, f_oldHappened, f_oldLost, f_oldTime, f_oldAll, f_kept, a_termOp, a_termValue, a_askedCode, a_code, a_oldCode, a_askedArg, a_arg, a_oldArg, a_askedLength, a_stack, (ed_sp a_question (64 * s) 64 qs), a_oldQuestion, (ed_sp a_list (256 * s) 256 ls), a_oldList, a_event, a_oldEvent)) (hp1 : 0 < (ej_J M0 M1 av n m F e).length → wpX_put post (f_terms, f_conditions, f_happened, f_waiting, f_lost, f_time, f_all, f_oldHappened, f_oldLost, f_oldTime, f_oldAll, f_kept, a_termOp, a_termValue, a_askedCode, a_code, a_oldCode, a_askedArg, a_arg, a_oldArg, a_askedLength, a_stack, (ed_sp a_question (64 * s) 64 qs), a_oldQuestion, (ed_sp a_list (256 * s) 256 ls), a_oldList, a_event, a_oldEvent) (nI s) (ed_sm ((ej_J M0 M1 av n m F e).map bv))) :
    wX_pair_65 post (nI s) (nI e) (nI (64 * s)) (ed_bI (M0 e)) (ed_bI (M1 e)) f_terms f_conditions f_happened f_waiting f_lost f_time f_all f_oldHappened f_oldLost f_oldTime f_oldAll f_kept a_termOp a_termValue a_askedCode a_code a_oldCode a_askedArg a_arg a_oldArg a_askedLength a_stack (ed_sp a_question (64 * s) 64 qs) a_oldQuestion (ed_sp a_list (256 * s) 256 ls) a_oldList a_event a_oldEvent := by
  obtain ⟨⟨g1, I1⟩, g2, I2⟩ := I
  have hm : ∀ (M : Nat → Bool) (n : Nat), ∀ k ∈ ed_la n (ed_ms M F (e + 1)), k < e + 1 := by
    intro M n k hk
    exact (ed_ms_mem.mp ((List.drop_sublist _ _).subset hk)).1.2
  have q1 : (256 : Int32) * nI s = nI (256 * s) := by rw [← pk_mul]; rfl
  unfold wX_pair_65
  have left : M0 e = true → wX_pair_76 post (nI s) (nI e) (nI (64 * s)) (ed_bI (M0 e)) f_terms f_conditions f_happened f_waiting f_lost f_time f_all f_oldHappened f_oldLost f_oldTime f_oldAll f_kept a_termOp a_termValue a_askedCode a_code a_oldCode a_askedArg a_arg a_oldArg a_askedLength a_stack (ed_sp a_question (64 * s) 64 qs) a_oldQuestion (ed_sp a_list (256 * s) 256 ls) a_oldList a_event a_oldEvent := by
    intro m0
    unfold ej_J at hp0 hp1
    rw [m0] at hp0 hp1 ⊢
    refine br_f (by decide) (br_f (by decide) ?_)
    unfold wX_pair_109
    rw [q1]
    refine nm_r (show nI (256 * s) + 208 = nI (256 * s + 208) from nI_add _ 208) ⟨(ed_la m (ed_ms M1 F (e + 1))).length + 1, ?_⟩
    exact xj_loop (R := ed_la m (ed_ms M1 F (e + 1))) (sd := 38) (ba := 208) hs he (by decide) (by decide) hav hbv I2 (hm _ _) hp0 hp1 _ 0 (Nat.zero_add _) _ (Nat.lt_succ_self _)
  have right : M0 e = false → M1 e = true → wX_pair_76 post (nI s) (nI e) (nI (64 * s)) (ed_bI (M0 e)) f_terms f_conditions f_happened f_waiting f_lost f_time f_all f_oldHappened f_oldLost f_oldTime f_oldAll f_kept a_termOp a_termValue a_askedCode a_code a_oldCode a_askedArg a_arg a_oldArg a_askedLength a_stack (ed_sp a_question (64 * s) 64 qs) a_oldQuestion (ed_sp a_list (256 * s) 256 ls) a_oldList a_event a_oldEvent := by
    intro m0 m1
    unfold ej_J at hp0 hp1
    rw [m0, m1] at hp0 hp1
    rw [m0]
    refine br_t rfl (br_t rfl ?_)
    unfold wX_pair_109
    rw [q1]
    refine nm_r (show nI (256 * s) + 192 = nI (256 * s + 192) from nI_add _ 192) ⟨(ed_la n (ed_ms M0 F (e + 1))).length + 1, ?_⟩
    exact xj_loop (R := ed_la n (ed_ms M0 F (e + 1))) (sd := 36) (ba := 192) hs he (by decide) (by decide) hav hbv I1 (hm _ _) hp0 hp1 _ 0 (Nat.zero_add _) _ (Nat.lt_succ_self _)
  refine ed_bI_br (fun b => ed_bI_br (fun d => ?_) (fun d => right b d)) (fun b => left b)
  refine hp0 ?_
  unfold ej_J
  rw [b, d]; rfl
theorem xj_pair (hs : s < 6) (he : e < 64) (hF : F ≤ e) (hC : C = 2) (ok : xc_ok a_code a_arg qs s C Mc) (hfe : ∀ i, i < 4 → a_event (4 * e + i) = fe i) (hav : ∀ k, k < e + 1 → a_event (4 * k + 1) = av k) (hbv : ∀ k, k < e + 1 → a_event (4 * k + 2) = bv k)
    (h2 : qs 2 = nI n) (h3 : qs 3 = nI m) (hn1 : 1 ≤ n) (hn2 : n ≤ 16) (hm1 : 1 ≤ m) (hm2 : m ≤ 16) (m0 : M0 e = Mc 0 fe) (m1 : M1 e = Mc 1 fe) (I : xj_inv M0 M1 n m F e qs ls)
    (hp0 : (ej_J M0 M1 av n m F e).length = 0 → ∀ stk qs' ls', xj_inv M0 M1 n m F (e + 1) qs' ls' → (∀ j, j < 36 ∨ 40 ≤ j → qs' j = qs j) → post (f_terms, f_conditions, f_happened, f_waiting, f_lost, f_time, f_all, f_oldHappened, f_oldLost, f_oldTime, f_oldAll, f_kept, a_termOp, a_termValue, a_askedCode, a_code, a_oldCode, a_askedArg, a_arg, a_oldArg, a_askedLength, stk, (ed_sp a_question (64 * s) 64 qs'), a_oldQuestion, (ed_sp a_list (256 * s) 256 ls'), a_oldList, a_event, a_oldEvent))
    (hp1 : 0 < (ej_J M0 M1 av n m F e).length → ∀ stk qs' ls', xj_inv M0 M1 n m F (e + 1) qs' ls' → (∀ j, j < 36 ∨ 40 ≤ j → qs' j = qs j) → wpX_put post (f_terms, f_conditions, f_happened, f_waiting, f_lost, f_time, f_all, f_oldHappened, f_oldLost, f_oldTime, f_oldAll, f_kept, a_termOp, a_termValue, a_askedCode, a_code, a_oldCode, a_askedArg, a_arg, a_oldArg, a_askedLength, stk, (ed_sp a_question (64 * s) 64 qs'), a_oldQuestion, (ed_sp a_list (256 * s) 256 ls'), a_oldList, a_event, a_oldEvent) (nI s) (ed_sm ((ej_J M0 M1 av n m F e).map bv))) :
    wpX_pair post (f_terms, f_conditions, f_happened, f_waiting, f_lost, f_time, f_all, f_oldHappened, f_oldLost, f_oldTime, f_oldAll, f_kept, a_termOp, a_termValue, a_askedCode, a_code, a_oldCode, a_askedArg, a_arg, a_oldArg, a_askedLength, a_stack, (ed_sp a_question (64 * s) 64 qs), a_oldQuestion, (ed_sp a_list (256 * s) 256 ls), a_oldList, a_event, a_oldEvent) (nI s) (nI e) := by
  obtain ⟨⟨g1, I1⟩, g2, I2⟩ := I
  have q0 : (64 : Int32) * nI s = nI (64 * s) := by rw [← pk_mul]; rfl
  have ln : ∀ (M : Nat → Bool) (n : Nat), (ed_la n (ed_ms M F e)).length ≤ n := fun M n => by rw [ed_la_len]; omega
  have st : ∀ (M : Nat → Bool) (n : Nat), 1 ≤ n → M e = true → (if (ed_la n (ed_ms M F e)).length = n then (ed_la n (ed_ms M F e)).tail else ed_la n (ed_ms M F e)) ++ [e] = ed_la n (ed_ms M F (e + 1)) := by
    intro M n hn me
    rw [ed_la_snoc hn, ed_ms_t hF me]
  have sf : ∀ (M : Nat → Bool) (n : Nat), M e = false → ed_la n (ed_ms M F e) = ed_la n (ed_ms M F (e + 1)) := by
    intro M n me
    rw [ed_ms_f hF me]
  unfold wpX_pair
  refine nm_r q0 ?_
  refine xs_meets (c := 0) hs (by omega) (by omega) ok he hfe (fun stk1 => ?_)
  refine xs_meets (c := 1) hs (by omega) (by omega) ok he hfe (fun stk2 => ?_)
  rw [← m0, ← m1]
  have right : ∀ qs' ls', (∃ h1, xj_rep qs' ls' 36 192 (ed_la n (ed_ms M0 F (e + 1))) h1) → (∃ h2, xj_rep qs' ls' 38 208 (ed_la m (ed_ms M1 F e)) h2) → (∀ j, j < 36 ∨ 40 ≤ j → qs' j = qs j) →
      wX_pair_44 post (nI s) (nI e) (nI (64 * s)) (ed_bI (M0 e)) (ed_bI (M1 e)) f_terms f_conditions f_happened f_waiting f_lost f_time f_all f_oldHappened f_oldLost f_oldTime f_oldAll f_kept a_termOp a_termValue a_askedCode a_code a_oldCode a_askedArg a_arg a_oldArg a_askedLength stk2 (ed_sp a_question (64 * s) 64 qs') a_oldQuestion (ed_sp a_list (256 * s) 256 ls') a_oldList a_event a_oldEvent := by
    intro qs' ls' J1 J2 sm
    unfold wX_pair_44
    refine ed_bI_br (fun b => ?_) (fun b => ?_)
    · rw [sf M1 m b] at J2
      exact xj_65 hs he hF hav hbv ⟨J1, J2⟩ (fun z => hp0 z stk2 qs' ls' ⟨J1, J2⟩ sm) (fun z => hp1 z stk2 qs' ls' ⟨J1, J2⟩ sm)
    · obtain ⟨k2, J2⟩ := J2
      obtain ⟨k1, J1⟩ := J1
      refine ⟨pk_in (64 * s + 3) _ (by omega) (nI_add _ 3), ?_⟩
      rw [show ed_sp a_question (64 * s) 64 qs' (nI (64 * s) + 3).toNatClampNeg = nI m from (ed_qr hs (k := 3) (by decide)).trans ((sm 3 (by decide)).trans h3)]
      refine xj_ringR hs J2 hm1 hm2 (ln M1 m) (fun qs2 ls2 hd2 R2 e1 e2 => ?_)
      rw [st M1 m hm1 b] at R2
      have J1' : xj_rep qs2 ls2 36 192 (ed_la n (ed_ms M0 F (e + 1))) k1 := xj_rep_same J1 (e1 36 (by decide) (by decide)) (e1 37 (by decide) (by decide)) (fun j a b => e2 j (by omega))
      have sm2 : ∀ j, j < 36 ∨ 40 ≤ j → qs2 j = qs j := fun j hj => (e1 j (by omega) (by omega)).trans (sm j hj)
      exact xj_65 hs he hF hav hbv ⟨⟨k1, J1'⟩, ⟨hd2, R2⟩⟩ (fun z => hp0 z stk2 qs2 ls2 ⟨⟨k1, J1'⟩, ⟨hd2, R2⟩⟩ sm2) (fun z => hp1 z stk2 qs2 ls2 ⟨⟨k1, J1'⟩, ⟨hd2, R2⟩⟩ sm2)
  refine ed_bI_br (fun b => ?_) (fun b => ?_)
  · rw [sf M0 n b] at I1
    exact right qs ls ⟨g1, I1⟩ ⟨g2, I2⟩ (fun _ _ => rfl)
  · refine ⟨pk_in (64 * s + 2) _ (by omega) (nI_add _ 2), ?_⟩
    rw [show ed_sp a_question (64 * s) 64 qs (nI (64 * s) + 2).toNatClampNeg = nI n from (ed_qr hs (k := 2) (by decide)).trans h2]
    refine xj_ringL hs I1 hn1 hn2 (ln M0 n) (fun qs2 ls2 hd2 R2 e1 e2 => ?_)
    rw [st M0 n hn1 b] at R2
    exact right qs2 ls2 ⟨hd2, R2⟩ ⟨g2, xj_rep_same I2 (e1 38 (by decide) (by decide)) (e1 39 (by decide) (by decide)) (fun j a b => e2 j (by omega))⟩ (fun j hj => e1 j (by omega) (by omega))
end
end
section
/-! the reference's totals -/
section
variable {h_terms h_listed h_kept h_waits h_begun h_has h_out : Int32} {b_term b_list b_q b_ev b_g b_keptQ b_keptEv b_keptG b_waiting b_stack b_met b_view b_sorted b_breaks : Nat → Int32} {e k : Nat} {post : Int32 → Prop}
theorem yw_a (he : e < 64) (hp : post (b_ev (4 * e + 1))) : wpY_aOf post (h_terms, h_listed, h_kept, h_waits, h_begun, h_has, h_out, b_term, b_list, b_q, b_ev, b_g, b_keptQ, b_keptEv, b_keptG, b_waiting, b_stack, b_met, b_view, b_sorted, b_breaks) (nI e) := by
  have q : (4 : Int32) * nI e + 1 = nI (4 * e + 1) := by rw [← nI_add, ← pk_mul]; rfl
  unfold wpY_aOf
  dsimp only
  rw [q, nI_clamp (by omega)]
  exact ⟨vp_in_nI (by omega) (by omega), hp⟩
theorem yw_b (he : e < 64) (hp : post (b_ev (4 * e + 2))) : wpY_bOf post (h_terms, h_listed, h_kept, h_waits, h_begun, h_has, h_out, b_term, b_list, b_q, b_ev, b_g, b_keptQ, b_keptEv, b_keptG, b_waiting, b_stack, b_met, b_view, b_sorted, b_breaks) (nI e) := by
  have q : (4 : Int32) * nI e + 2 = nI (4 * e + 2) := by rw [← nI_add, ← pk_mul]; rfl
  unfold wpY_bOf
  dsimp only
  rw [q, nI_clamp (by omega)]
  exact ⟨vp_in_nI (by omega) (by omega), hp⟩
theorem yw_t (he : e < 64) (hp : post (b_ev (4 * e + 3))) : wpY_timeOf post (h_terms, h_listed, h_kept, h_waits, h_begun, h_has, h_out, b_term, b_list, b_q, b_ev, b_g, b_keptQ, b_keptEv, b_keptG, b_waiting, b_stack, b_met, b_view, b_sorted, b_breaks) (nI e) := by
  have q : (4 : Int32) * nI e + 3 = nI (4 * e + 3) := by rw [← nI_add, ← pk_mul]; rfl
  unfold wpY_timeOf
  dsimp only
  rw [q, nI_clamp (by omega)]
  exact ⟨vp_in_nI (by omega) (by omega), hp⟩
end
/-- the place of x in a sorted list of values -/
theorem yt_place {B : List Int32} {x : Int32} (hs : B.Pairwise (· ≤ ·)) : ∃ r, r ≤ B.length ∧ (∀ i (h : i < B.length), i < r → B[i] ≤ x) ∧ (∀ i (h : i < B.length), r ≤ i → ¬ B[i] ≤ x) := by
  induction B with
  | nil => exact ⟨0, Nat.le_refl 0, fun i h => absurd h (by simp), fun i h => absurd h (by simp)⟩
  | cons y B ih =>
    rw [List.pairwise_cons] at hs
    by_cases hx : y ≤ x
    · obtain ⟨r, a, b, c⟩ := ih hs.2
      refine ⟨r + 1, by rw [List.length_cons]; omega, fun i h hi => ?_, fun i h hi => ?_⟩
      · cases i with
        | zero => exact hx
        | succ i => exact b i (by rw [List.length_cons] at h; omega) (by omega)
      · cases i with
        | zero => omega
        | succ i => exact c i (by rw [List.length_cons] at h; omega) (by omega)
    · refine ⟨0, by omega, fun i h hi => by omega, fun i h hi => ?_⟩
      cases i with
      | zero => exact hx
      | succ i =>
        have hl : i < B.length := by rw [List.length_cons] at h; omega
        exact fun z => hx (Int32.le_trans (hs.1 _ (List.getElem_mem hl)) z)
theorem yt_ins {B : List Int32} {x : Int32} {r : Nat} (hs : B.Pairwise (· ≤ ·)) (hr : r ≤ B.length) (h1 : ∀ i (h : i < B.length), i < r → B[i] ≤ x) (h2 : ∀ i (h : i < B.length), r ≤ i → ¬ B[i] ≤ x) : (B.insertIdx r x).Pairwise (· ≤ ·) := by
  rw [List.pairwise_iff_getElem] at hs ⊢
  intro i j hi hj hij
  have hl : (B.insertIdx r x).length = B.length + 1 := List.length_insertIdx_of_le_length hr x
  rw [hl] at hi hj
  rw [List.getElem_insertIdx, List.getElem_insertIdx]
  by_cases a : i < r
  · rw [dif_pos a]
    by_cases b : j < r
    · rw [dif_pos b]; exact hs i j _ _ hij
    · rw [dif_neg b]
      by_cases c : j = r
      · rw [dif_pos c]; exact h1 i (by omega) a
      · rw [dif_neg c]; exact hs i (j - 1) _ _ (by omega)
  · rw [dif_neg a, dif_neg (show ¬ j < r by omega), dif_neg (show ¬ j = r by omega)]
    by_cases c : i = r
    · rw [dif_pos c]
      exact Int32.le_of_lt (Int32.not_le.mp (h2 (j - 1) (by omega) (by omega)))
    · rw [dif_neg c]; exact hs (i - 1) (j - 1) _ _ (by omega)
section
variable {h_terms h_listed h_kept h_waits h_begun h_has h_out : Int32} {b_term b_list b_q b_ev b_g b_keptQ b_keptEv b_keptG b_waiting b_stack b_met b_view b_sorted b_breaks : Nat → Int32} {e k F how r len : Nat} {bv : Nat → Int32} {x1 x3 x4 x5 : Int32} {post : Int32 → SY → Prop} {J : Int32 → Int32 → Int32 → (Nat → Int32) → (Nat → Int32) → (Nat → Int32) → (Nat → Int32) → (Nat → Int32) → (Nat → Int32) → (Nat → Int32) → (Nat → Int32) → (Nat → Int32) → (Nat → Int32) → (Nat → Int32) → (Nat → Int32) → (Nat → Int32) → (Nat → Int32) → Prop} {B : List Int32}
theorem yt_116 (hw : how ≤ 5) (hx : x5 = ed_sm B) (hl : B.length ≤ 64) (hpos : 0 < B.length) (hB : ∀ i (h : i < B.length), b_sorted i = B[i]) (hp : post (ed_tot how B) (h_terms, h_listed, h_kept, h_waits, h_begun, h_has, h_out, b_term, b_list, b_q, b_ev, b_g, b_keptQ, b_keptEv, b_keptG, b_waiting, b_stack, b_met, b_view, b_sorted, b_breaks)) :
    ∀ d i, i + d = B.length → ∀ n, d < n → wY_total_116 post (nI how) (nI B.length) x5 h_terms h_listed h_kept h_waits h_begun h_has h_out b_term b_list b_q b_ev b_g b_keptQ b_keptEv b_keptG b_waiting b_stack b_met b_view b_sorted b_breaks n (nI (ed_df B i)) (nI i) := by
  have gd : ∀ i, i < B.length → b_sorted i = B.getD i 0 := fun i h => by
    rw [hB i h, List.getD_eq_getElem?_getD, List.getElem?_eq_getElem h]; rfl
  intro d
  induction d with
  | zero =>
    intro i hi n hn
    obtain ⟨n, rfl⟩ : ∃ m, n = m + 1 := ⟨n - 1, by omega⟩
    obtain rfl : i = B.length := by omega
    have q1 : nI B.length - 1 = nI (B.length - 1) := pk_sub (b := 1) (by omega)
    have q2 : nI (B.length - 1) / 2 = nI ((B.length - 1) / 2) := pk_div (d := 2) (by omega) (by omega) (by omega)
    rw [wY_total_116]
    dsimp only
    refine br_t (Int32.le_refl _) ?_
    rw [q1, q2, nI_clamp (by omega), nI_clamp (by omega)]
    rcases (show how = 0 ∨ how = 1 ∨ how = 2 ∨ how = 3 ∨ how = 4 ∨ how = 5 by omega) with rfl | rfl | rfl | rfl | rfl | rfl
    · exact br_t rfl hp
    · refine br_f (by decide) (br_t rfl ?_)
      rw [hx]; exact hp
    · refine br_f (by decide) (br_f (by decide) (br_t rfl ?_))
      rw [gd 0 hpos]; exact hp
    · refine br_f (by decide) (br_f (by decide) (br_f (by decide) (br_t rfl ⟨vp_in_nI (by omega) (by omega), ?_⟩)))
      rw [gd _ (by omega)]; exact hp
    · exact br_f (by decide) (br_f (by decide) (br_f (by decide) (br_f (by decide) (br_t rfl hp))))
    · refine br_f (by decide) (br_f (by decide) (br_f (by decide) (br_f (by decide) (br_f (by decide) ⟨by decide, vp_in_nI (by omega) (by omega), ?_⟩))))
      rw [gd _ (by omega)]; exact hp
  | succ d ih =>
    intro i hi n hn
    obtain ⟨n, rfl⟩ : ∃ m, n = m + 1 := ⟨n - 1, by omega⟩
    have go := ih (i + 1) (by omega) n (by omega)
    rw [show ed_df B (i + 1) = ed_df B i + (if i = 0 ∨ B.getD i 0 ≠ B.getD (i - 1) 0 then 1 else 0) from rfl] at go
    rw [wY_total_116]
    dsimp only
    refine br_f (nI_ge (by omega) (by omega)) (pk_eq i 0 (fun c => ?_) (fun c => ?_))
    · rw [if_pos (Or.inl c)] at go
      exact nm_r (nI_1 _) (nm_r (nI_1 _) go)
    · have q1 : nI i - 1 = nI (i - 1) := pk_sub (b := 1) (by omega)
      rw [q1, nI_clamp (by omega), nI_clamp (by omega), gd i (by omega), gd (i - 1) (by omega)]
      refine ⟨vp_in_nI (by omega) (by omega), vp_in_nI (by omega) (by omega), br_c (fun g => ?_) (fun g => ?_)⟩
      · rw [if_neg (fun z => z.elim c (fun y => y g))] at go
        exact nm_r (nI_1 _) go
      · rw [if_pos (Or.inr g)] at go
        exact nm_r (nI_1 _) (nm_r (nI_1 _) go)
theorem yt_35 (hk : k < 64) (hl : B.length < 64) (hbv : b_ev (4 * k + 2) = bv k) (hB : ∀ i (h : i < B.length), b_sorted i = B[i]) (hr : r ≤ B.length) (h1 : ∀ i (h : i < B.length), i < r → B[i] ≤ bv k) (h2 : ∀ i (h : i < B.length), r ≤ i → ¬ B[i] ≤ bv k)
    (K : J x4 (x5 + bv k) (nI (k + 1)) b_term b_list b_q b_ev b_g b_keptQ b_keptEv b_keptG b_waiting b_stack b_met b_view (upd (ew_sh b_sorted r B.length) r (bv k)) b_breaks) :
    ∀ d j, j = r + d → j ≤ B.length → ∀ n, d < n → wY_total_35 post J x1 x3 x4 x5 (nI k) h_terms h_listed h_kept h_waits h_begun h_has h_out n (nI j) b_term b_list b_q b_ev b_g b_keptQ b_keptEv b_keptG b_waiting b_stack b_met b_view (ew_sh b_sorted j B.length) b_breaks := by
  have fin : wY_total_80 post J x1 x3 x4 x5 (nI k) (nI r) h_terms h_listed h_kept h_waits h_begun h_has h_out b_term b_list b_q b_ev b_g b_keptQ b_keptEv b_keptG b_waiting b_stack b_met b_view (ew_sh b_sorted r B.length) b_breaks := by
    unfold wY_total_80
    refine yw_b hk ?_
    rw [hbv, nI_clamp (by omega)]
    refine ⟨vp_in_nI (by omega) (by omega), nm_e (yw_b hk ?_)⟩
    rw [hbv]
    exact nm_e (nm_r (nI_1 _) K)
  intro d
  induction d with
  | zero =>
    intro j hj hjl n hn
    obtain ⟨n, rfl⟩ : ∃ m, n = m + 1 := ⟨n - 1, by omega⟩
    obtain rfl : j = r := by omega
    rw [wY_total_35]
    dsimp only
    refine pk_le j 0 (fun c => fin) (fun c => ?_)
    have q1 : nI j - 1 = nI (j - 1) := pk_sub (b := 1) (by omega)
    rw [q1, nI_clamp (by omega)]
    refine ⟨vp_in_nI (by omega) (by omega), yw_b hk ?_⟩
    rw [hbv]
    have e1 : ew_sh b_sorted j B.length (j - 1) = B[j - 1]'(by omega) := (if_neg (by omega)).trans (hB _ (by omega))
    rw [e1]
    exact br_t (h1 _ (by omega) (by omega)) fin
  | succ d ih =>
    intro j hj hjl n hn
    obtain ⟨n, rfl⟩ : ∃ m, n = m + 1 := ⟨n - 1, by omega⟩
    obtain ⟨j, rfl⟩ : ∃ m, j = m + 1 := ⟨j - 1, by omega⟩
    rw [wY_total_35]
    dsimp only
    refine br_f (nI_ge (a := 0) (by omega) (by omega)) ?_
    rw [nI_pred, nI_clamp (by omega), nI_clamp (by omega)]
    refine ⟨vp_in_nI (by omega) (by omega), yw_b hk ?_⟩
    rw [hbv]
    have e1 : ew_sh b_sorted (j + 1) B.length j = B[j]'(by omega) := (if_neg (by omega)).trans (hB _ (by omega))
    refine br_f (by rw [e1]; exact h2 _ (by omega) (by omega)) ⟨vp_in_nI (by omega) (by omega), vp_in_nI (by omega) (by omega), nm_r (ew_sh_step (by omega)) (nm_r (pk_m1 j) ?_)⟩
    exact ih j (by omega) (by omega) n (by omega)
end
section
variable {h_terms h_listed h_kept h_waits h_begun h_has h_out : Int32} {b_term b_list b_q b_ev b_g b_keptQ b_keptEv b_keptG b_waiting b_stack b_met b_view b_sorted b_breaks : Nat → Int32} {e F how : Nat} {W : Nat → Bool} {bv : Nat → Int32} {post : Int32 → SY → Prop}
theorem yt_9 (he : e < 64) (hF : F ≤ e) (hw : how ≤ 5) (hbv : ∀ k, k < e + 1 → b_ev (4 * k + 2) = bv k) (hW : ∀ k, F ≤ k → k ≤ e → b_view k = ed_bI (W k)) (hWe : W e = true)
    (hp : ∀ srt, post (ed_tot how (ed_srt ((ed_ms W F (e + 1)).map bv))) (h_terms, h_listed, h_kept, h_waits, h_begun, h_has, h_out, b_term, b_list, b_q, b_ev, b_g, b_keptQ, b_keptEv, b_keptG, b_waiting, b_stack, b_met, b_view, srt, b_breaks)) :
    ∀ (d k : Nat) (srt : Nat → Int32) (B : List Int32), k + d = e + 1 → F ≤ k → B.Perm ((ed_ms W F k).map bv) → B.Pairwise (· ≤ ·) → (∀ i (h : i < B.length), srt i = B[i]) → ∀ n, d < n →
      wY_total_9 post (nI how) (nI e) h_terms h_listed h_kept h_waits h_begun h_has h_out n (nI B.length) (ed_sm ((ed_ms W F k).map bv)) (nI k) b_term b_list b_q b_ev b_g b_keptQ b_keptEv b_keptG b_waiting b_stack b_met b_view srt b_breaks := by
  intro d
  induction d with
  | zero =>
    intro k srt B hk hFk pm sr hB n hn
    obtain ⟨n, rfl⟩ : ∃ m, n = m + 1 := ⟨n - 1, by omega⟩
    obtain rfl : k = e + 1 := by omega
    have hl := pm.length_eq
    rw [List.length_map] at hl
    have hml := ed_ms_len (M := W) (a := F) (b := e + 1)
    have hpos : 0 < B.length := by
      rw [hl, ed_ms_t hF hWe, List.length_append, List.length_singleton]; omega
    rw [wY_total_9]
    dsimp only
    refine br_t (nI_lt (by omega) (by omega)) ⟨B.length + 1, ?_⟩
    rw [ed_srt_eq pm sr] at hp
    exact yt_116 hw (ed_sm_perm pm).symm (by omega) hpos hB (hp srt) B.length 0 (by omega) (B.length + 1) (by omega)
  | succ d ih =>
    intro k srt B hk hFk pm sr hB n hn
    obtain ⟨n, rfl⟩ : ∃ m, n = m + 1 := ⟨n - 1, by omega⟩
    have hl := pm.length_eq
    rw [List.length_map] at hl
    have hml := ed_ms_len (M := W) (a := F) (b := k)
    rw [wY_total_9]
    dsimp only
    rw [nI_clamp (by omega), hW k hFk (by omega)]
    refine br_f (nI_nlt (by omega) (by omega)) ⟨vp_in_nI (by omega) (by omega), ed_bI_br (fun b => ?_) (fun b => ?_)⟩
    · have := ih (k + 1) srt B (by omega) (by omega) (by rw [ed_ms_f hFk b]; exact pm) sr hB n (by omega)
      rw [ed_ms_f hFk b] at this
      exact nm_r (nI_1 _) this
    · obtain ⟨r, r1, r2, r3⟩ := yt_place (x := bv k) sr
      have hil : (B.insertIdx r (bv k)).length = B.length + 1 := List.length_insertIdx_of_le_length r1 (bv k)
      refine nm_r (nI_1 _) ⟨B.length + 1, ?_⟩
      have go := yt_35 (post := post) (J := wY_total_9 post (nI how) (nI e) h_terms h_listed h_kept h_waits h_begun h_has h_out n) (x1 := nI how) (x3 := nI e) (x4 := nI (B.length + 1)) (x5 := ed_sm ((ed_ms W F k).map bv)) (bv := bv) (B := B) (k := k) (r := r) (h_terms := h_terms) (h_listed := h_listed) (h_kept := h_kept) (h_waits := h_waits) (h_begun := h_begun) (h_has := h_has) (h_out := h_out) (b_term := b_term) (b_list := b_list) (b_q := b_q) (b_ev := b_ev) (b_g := b_g) (b_keptQ := b_keptQ) (b_keptEv := b_keptEv) (b_keptG := b_keptG) (b_waiting := b_waiting) (b_stack := b_stack) (b_met := b_met) (b_view := b_view) (b_sorted := srt) (b_breaks := b_breaks) (by omega) (by omega) (hbv k (by omega)) hB r1 r2 r3 ?_ (B.length - r) B.length (by omega) (Nat.le_refl _) (B.length + 1) (by omega)
      · rw [ew_sh_len] at go
        exact go
      · have := ih (k + 1) (upd (ew_sh srt r B.length) r (bv k)) (B.insertIdx r (bv k)) (by omega) (by omega) ?_ (yt_ins sr r1 r2 r3) (fun i h => ?_) n (by omega)
        · rw [hil, ed_ms_t hFk b, List.map_append, List.map_singleton, ed_sm_app] at this
          exact this
        · rw [ed_ms_t hFk b, List.map_append, List.map_singleton]
          exact (List.perm_insertIdx (bv k) B r1).trans ((pm.cons (bv k)).trans (List.perm_append_singleton _ _).symm)
        · rw [hil] at h
          rw [List.getElem_insertIdx]
          by_cases a : i = r
          · subst a
            rw [pk_us, dif_neg (by omega), dif_pos rfl]
          · rw [pk_un a]
            unfold ew_sh
            by_cases c : i < r
            · rw [if_neg (by omega), dif_pos c, hB i (by omega)]
            · rw [if_pos (by omega), dif_neg c, dif_neg a, hB (i - 1) (by omega)]
theorem yt_total (he : e < 64) (hF : F ≤ e) (hw : how ≤ 5) (hbv : ∀ k, k < e + 1 → b_ev (4 * k + 2) = bv k) (hW : ∀ k, F ≤ k → k ≤ e → b_view k = ed_bI (W k)) (hWe : W e = true)
    (hp : ∀ srt, post (ed_tot how (ed_srt ((ed_ms W F (e + 1)).map bv))) (h_terms, h_listed, h_kept, h_waits, h_begun, h_has, h_out, b_term, b_list, b_q, b_ev, b_g, b_keptQ, b_keptEv, b_keptG, b_waiting, b_stack, b_met, b_view, srt, b_breaks)) : wpY_total post (h_terms, h_listed, h_kept, h_waits, h_begun, h_has, h_out, b_term, b_list, b_q, b_ev, b_g, b_keptQ, b_keptEv, b_keptG, b_waiting, b_stack, b_met, b_view, b_sorted, b_breaks) (nI how) (nI F) (nI e) := by
  unfold wpY_total
  refine ⟨e + 2 - F, ?_⟩
  have := yt_9 he hF hw hbv hW hWe hp (e + 1 - F) F b_sorted [] (by omega) (Nat.le_refl _) (by rw [ed_ms_nil (Nat.le_refl _)]; exact List.Perm.refl _) List.Pairwise.nil (fun i h => absurd h (by simp)) (e + 2 - F) (by omega)
  rw [ed_ms_nil (Nat.le_refl _)] at this
  exact this
end
end
section
/-! the reference's windows: the view of each event -/
theorem ed_pred_lt {F : Nat} (h : F < 2 ^ 31) : nI F + (-1) < nI F := by
  cases F with
  | zero => decide
  | succ F => rw [pk_m1]; exact nI_lt (by omega) h
theorem ed_nar_b (b : Bool) : vp_nar .boolean (ed_bI b) = ed_bI b := by cases b <;> rfl
theorem ed_nar_0 : vp_nar .boolean 0 = 0 := rfl
theorem ed_nar_1 : vp_nar .boolean 1 = 1 := rfl
section
variable {h_terms h_listed h_kept h_waits h_begun h_has h_out : Int32} {b_term b_list b_q b_ev b_g b_keptQ b_keptEv b_keptG b_waiting b_stack b_met b_view b_sorted b_breaks : Nat → Int32} {e k : Nat} {M : Nat → Bool} {av : Nat → Int32} {post : Int32 → Prop}
theorem yv_latest_loop (he : e < 64) (hk : k ≤ e) (hav : ∀ k, k < e + 1 → b_ev (4 * k + 1) = av k) (hM : ∀ j, k ≤ j → j ≤ e → b_met j = ed_bI (M j)) (hp : post (ed_bI (ed_lat M av k (e + 1)))) :
    ∀ d j, j + d = e + 1 → k < j → ed_lat M av k j = true → ∀ n, d < n → wY_latest_4 post (nI k) (nI e) h_terms h_listed h_kept h_waits h_begun h_has h_out b_term b_list b_q b_ev b_g b_keptQ b_keptEv b_keptG b_waiting b_stack b_met b_view b_sorted b_breaks n (nI j) := by
  intro d
  induction d with
  | zero =>
    intro j hj hkj hl n hn
    obtain ⟨n, rfl⟩ : ∃ m, n = m + 1 := ⟨n - 1, by omega⟩
    obtain rfl : j = e + 1 := by omega
    rw [wY_latest_4]
    rw [hl] at hp
    exact br_t (nI_lt (by omega) (by omega)) hp
  | succ d ih =>
    intro j hj hkj hl n hn
    obtain ⟨n, rfl⟩ : ∃ m, n = m + 1 := ⟨n - 1, by omega⟩
    have ls := ed_lat_succ (M := M) (av := av) hkj
    rw [wY_latest_4]
    dsimp only
    rw [nI_clamp (by omega), hM j (by omega) (by omega)]
    refine br_f (nI_nlt (by omega) (by omega)) ⟨vp_in_nI (by omega) (by omega), ed_bI_br (fun b => ?_) (fun b => ?_)⟩
    · exact nm_r (nI_1 _) (ih (j + 1) (by omega) (by omega) (by rw [ls, hl, b]; rfl) n (by omega))
    · refine yw_a (by omega) (yw_a (by omega) ?_)
      rw [hav _ (by omega), hav _ (by omega)]
      refine br_c (fun c => ?_) (fun c => ?_)
      · have f : ed_lat M av k (e + 1) = false := by
          unfold ed_lat
          rw [List.all_eq_false]
          exact ⟨j, ed_rg_mem.mpr ⟨by omega, by omega⟩, by rw [b, c]; simp⟩
        rw [f] at hp
        exact hp
      · exact nm_r (nI_1 _) (ih (j + 1) (by omega) (by omega) (by rw [ls, hl, b, beq_false_of_ne c]; rfl) n (by omega))
theorem yv_latest (he : e < 64) (hk : k ≤ e) (hav : ∀ k, k < e + 1 → b_ev (4 * k + 1) = av k) (hM : ∀ j, k ≤ j → j ≤ e → b_met j = ed_bI (M j)) (hp : post (ed_bI (ed_lat M av k (e + 1)))) : wpY_latest post (h_terms, h_listed, h_kept, h_waits, h_begun, h_has, h_out, b_term, b_list, b_q, b_ev, b_g, b_keptQ, b_keptEv, b_keptG, b_waiting, b_stack, b_met, b_view, b_sorted, b_breaks) (nI k) (nI e) := by
  unfold wpY_latest
  refine nm_r (nI_1 _) ⟨e - k + 1, ?_⟩
  exact yv_latest_loop he hk hav hM hp (e - k) (k + 1) (by omega) (by omega) ed_lat_self (e - k + 1) (by omega)
end
section
variable {h_terms h_listed h_kept h_waits h_begun h_has h_out : Int32} {b_term b_list b_q b_ev b_g b_keptQ b_keptEv b_keptG b_waiting b_stack b_met b_view b_sorted b_breaks : Nat → Int32} {s e k F N l view : Nat} {M : Nat → Bool} {tm : Nat → Nat} {av : Nat → Int32} {x1 x2 x4 x5 x7 x8 z0 : Int32} {vk : Nat → Int32} {post : SY → Prop} {J : Int32 → Int32 → Int32 → Int32 → (Nat → Int32) → (Nat → Int32) → (Nat → Int32) → (Nat → Int32) → (Nat → Int32) → (Nat → Int32) → (Nat → Int32) → (Nat → Int32) → (Nat → Int32) → (Nat → Int32) → (Nat → Int32) → (Nat → Int32) → (Nat → Int32) → (Nat → Int32) → Prop}
theorem yv_182 (hv : view ≤ 5) (v4 : view ≠ 4) (hk : k < 64) (K : ∀ vk', vk' k = ed_bI true → (∀ j, j ≠ k → vk' j = vk j) → J (nI (l + 1)) x7 x8 (nI k + (-1)) b_term b_list b_q b_ev b_g b_keptQ b_keptEv b_keptG b_waiting b_stack b_met vk' b_sorted b_breaks) :
    wY_windowOf_182 post J x1 x2 (nI view) x4 x5 (nI l) x7 x8 (nI k) (nI k) h_terms h_listed h_kept h_waits h_begun h_has h_out b_term b_list b_q b_ev b_g b_keptQ b_keptEv b_keptG b_waiting b_stack b_met vk b_sorted b_breaks := by
  unfold wY_windowOf_182 wY_windowOf_187
  rw [nI_clamp (by omega)]
  exact ⟨vp_in_nI hk (by omega), nm_e (br_f (ec_neL (b := 4) v4 (by omega) (by decide)) (nm_r (nI_1 _) (nm_e (K _ (pk_us.trans ed_nar_1) (fun j hj => pk_un hj)))))⟩
theorem yv_186 (hv : view ≤ 5) (v4 : view ≠ 4) (hk : k < 64) (K : ∀ vk', vk' k = ed_bI false → (∀ j, j ≠ k → vk' j = vk j) → J (nI (l + 1)) x7 x8 (nI k + (-1)) b_term b_list b_q b_ev b_g b_keptQ b_keptEv b_keptG b_waiting b_stack b_met vk' b_sorted b_breaks) :
    wY_windowOf_186 post J x1 x2 (nI view) x4 x5 (nI l) x7 x8 (nI k) (nI k) h_terms h_listed h_kept h_waits h_begun h_has h_out b_term b_list b_q b_ev b_g b_keptQ b_keptEv b_keptG b_waiting b_stack b_met vk b_sorted b_breaks := by
  unfold wY_windowOf_186 wY_windowOf_187
  rw [nI_clamp (by omega)]
  exact ⟨vp_in_nI hk (by omega), nm_e (br_f (ec_neL (b := 4) v4 (by omega) (by decide)) (nm_r (nI_1 _) (nm_e (K _ (pk_us.trans ed_nar_0) (fun j hj => pk_un hj)))))⟩
theorem yv_117 (he : e < 64) (hv : view ≤ 5) (hk : k ≤ e) (hFk : F ≤ k) (hav : ∀ k, k < e + 1 → b_ev (4 * k + 1) = av k) (htm : ∀ k, k < e + 1 → b_ev (4 * k + 3) = nI (tm k)) (hmono : ∀ a b, a ≤ b → b < e + 1 → tm a ≤ tm b) (hT : tm e < 2 ^ 31)
    (hM : ∀ j, F ≤ j → j ≤ e → b_met j = ed_bI (M j)) (mk : M k = true) (hN13 : view = 1 ∨ view = 3 → x4 = nI N ∧ 1 ≤ N ∧ N ≤ 16) (hN25 : view = 2 ∨ view = 5 → x4 = nI N ∧ 1 ≤ N ∧ N ≤ 100) (hz : view = 5 → z0 = ed_bI (ed_ch tm N (ed_ms M k (e + 1))))
    (K : ∀ vk', vk' k = ed_bI (ed_vw M tm av view N e k) → (∀ j, j ≠ k → vk' j = vk j) → J (nI ((ed_ms M (k + 1) (e + 1)).length + 1)) (nI k) z0 (nI k + (-1)) b_term b_list b_q b_ev b_g b_keptQ b_keptEv b_keptG b_waiting b_stack b_met vk' b_sorted b_breaks) :
    wY_windowOf_117 post J (nI s) (nI e) (nI view) x4 (nI F) (nI (ed_ms M (k + 1) (e + 1)).length) (nI k) z0 h_terms h_listed h_kept h_waits h_begun h_has h_out b_term b_list b_q b_ev b_g b_keptQ b_keptEv b_keptG b_waiting b_stack b_met vk b_sorted b_breaks := by
  have hw : ed_vw M tm av view N e k = (if view = 0 then true else if view = 2 then decide (tm e - tm k < N) else if view = 1 ∨ view = 3 then decide ((ed_ms M (k + 1) (e + 1)).length < N)
    else if view = 5 then ed_ch tm N (ed_ms M k (e + 1)) else ed_lat M av k (e + 1)) := by unfold ed_vw; rw [mk, Bool.true_and]
  have hl := ed_ms_len (M := M) (a := k + 1) (b := e + 1)
  have htk := hmono k e hk (by omega)
  rw [hw] at K
  unfold wY_windowOf_117
  rcases (show view = 0 ∨ view = 1 ∨ view = 2 ∨ view = 3 ∨ view = 4 ∨ view = 5 by omega) with rfl | rfl | rfl | rfl | rfl | rfl
  · exact br_t rfl (yv_182 hv (by decide) (by omega) K)
  · obtain ⟨hx, n1, n2⟩ := hN13 (Or.inl rfl)
    subst hx
    refine br_f (by decide) (br_f (by decide) (br_t rfl (pk_lt (ed_ms M (k + 1) (e + 1)).length N (fun c => ?_) (fun c => ?_))))
    · refine yv_182 hv (by decide) (by omega) ?_
      rw [if_neg (by decide), if_neg (by decide), if_pos (by decide), decide_eq_true c] at K
      exact K
    · refine br_f (by decide) (yv_186 hv (by decide) (by omega) ?_)
      rw [if_neg (by decide), if_neg (by decide), if_pos (by decide), decide_eq_false (by omega)] at K
      exact K
  · obtain ⟨hx, n1, n2⟩ := hN25 (Or.inl rfl)
    subst hx
    refine br_f (by decide) (br_t rfl (yw_t (by omega) (yw_t (by omega) ?_)))
    rw [htm e (by omega), htm k (by omega), pk_sub htk]
    rw [if_neg (by decide), if_pos rfl] at K
    refine pk_lt (tm e - tm k) N (fun c => ?_) (fun c => ?_)
    · refine yv_182 hv (by decide) (by omega) ?_
      rw [decide_eq_true c] at K
      exact K
    · refine br_f (by decide) (br_f (by decide) (br_f (by decide) (yv_186 hv (by decide) (by omega) ?_)))
      rw [decide_eq_false (by omega)] at K
      exact K
  · obtain ⟨hx, n1, n2⟩ := hN13 (Or.inr rfl)
    subst hx
    refine br_f (by decide) (br_f (by decide) (br_f (by decide) (br_t rfl (pk_lt (ed_ms M (k + 1) (e + 1)).length N (fun c => ?_) (fun c => ?_)))))
    · refine yv_182 hv (by decide) (by omega) ?_
      rw [if_neg (by decide), if_neg (by decide), if_pos (by decide), decide_eq_true c] at K
      exact K
    · refine br_f (by decide) (yv_186 hv (by decide) (by omega) ?_)
      rw [if_neg (by decide), if_neg (by decide), if_pos (by decide), decide_eq_false (by omega)] at K
      exact K
  · refine br_f (by decide) (br_f (by decide) (br_f (by decide) (br_f (by decide) (br_f (by decide) ?_))))
    rw [if_neg (by decide), if_neg (by decide), if_neg (by decide), if_neg (by decide)] at K
    unfold wY_windowOf_186 wY_windowOf_187
    rw [nI_clamp (by omega)]
    refine ⟨vp_in_nI (by omega) (by omega), nm_e (br_t rfl (yv_latest he hk hav (fun j h1 h2 => hM j (by omega) h2) ⟨vp_in_nI (by omega) (by omega), nm_e (nm_r (nI_1 _) (nm_e (K _ (pk_us.trans (ed_nar_b _)) (fun j hj => (pk_un hj).trans (pk_un hj)))))⟩))⟩
  · obtain ⟨hx, n1, n2⟩ := hN25 (Or.inr rfl)
    subst hx
    have hz := hz rfl
    rw [if_neg (by decide), if_neg (by decide), if_neg (by decide), if_pos rfl] at K
    subst hz
    refine br_f (by decide) (br_f (by decide) (br_f (by decide) (br_f (by decide) (br_t rfl (ed_bI_br (fun b => ?_) (fun b => ?_))))))
    · refine yv_186 hv (by decide) (by omega) ?_
      rw [b] at K ⊢
      exact K
    · refine yv_182 hv (by decide) (by omega) ?_
      rw [b] at K ⊢
      exact K
end
end
section
/-! the reference's windows: the loops and windowOf -/
theorem ed_vw_self {M : Nat → Bool} {tm : Nat → Nat} {av : Nat → Int32} {view N e : Nat} (m : M e = true) (hv : view ≤ 5) (hN : view = 1 ∨ view = 2 ∨ view = 3 → 1 ≤ N) : ed_vw M tm av view N e e = true := by
  unfold ed_vw
  rw [m, Bool.true_and]
  rcases (show view = 0 ∨ view = 1 ∨ view = 2 ∨ view = 3 ∨ view = 4 ∨ view = 5 by omega) with rfl | rfl | rfl | rfl | rfl | rfl
  · rfl
  · have := hN (Or.inl rfl)
    rw [if_neg (by decide), if_neg (by decide), if_pos (by decide), ed_ms_nil (Nat.le_refl _)]
    exact decide_eq_true this
  · have := hN (Or.inr (Or.inl rfl))
    rw [if_neg (by decide), if_pos rfl]
    exact decide_eq_true (by omega)
  · have := hN (Or.inr (Or.inr rfl))
    rw [if_neg (by decide), if_neg (by decide), if_pos (by decide), ed_ms_nil (Nat.le_refl _)]
    exact decide_eq_true this
  · rw [if_neg (by decide), if_neg (by decide), if_neg (by decide), if_neg (by decide)]
    exact ed_lat_self
  · rw [if_neg (by decide), if_neg (by decide), if_neg (by decide), if_pos rfl, ed_ms_ct (by omega) m, ed_ms_nil (Nat.le_refl _)]
    rfl
theorem ed_head_lt {M : Nat → Bool} {j e : Nat} (he : e < 64) : (ed_ms M j (e + 1)).headD e < 64 := by
  cases h : ed_ms M j (e + 1) with
  | nil => exact he
  | cons x r =>
    have := ed_ms_mem.mp (show x ∈ ed_ms M j (e + 1) by rw [h]; exact List.mem_cons_self)
    show x < 64
    omega
section
variable {h_terms h_listed h_kept h_waits h_begun h_has h_out : Int32} {b_term b_list b_q b_ev b_g b_keptQ b_keptEv b_keptG b_waiting b_stack b_met b_view b_sorted b_breaks : Nat → Int32} {s e F N view how : Nat} {M : Nat → Bool} {tm : Nat → Nat} {av bv : Nat → Int32} {x4 fl : Int32} {post : SY → Prop}
theorem yv_61 (hs : s < 6) (he : e < 64) (hv : view ≤ 5) (hF : F ≤ e) (hav : ∀ k, k < e + 1 → b_ev (4 * k + 1) = av k) (htm : ∀ k, k < e + 1 → b_ev (4 * k + 3) = nI (tm k)) (hmono : ∀ a b, a ≤ b → b < e + 1 → tm a ≤ tm b) (hT : tm e < 2 ^ 31)
    (hM : ∀ j, F ≤ j → j ≤ e → b_met j = ed_bI (M j)) (me : M e = true) (hN13 : view = 1 ∨ view = 3 → x4 = nI N ∧ 1 ≤ N ∧ N ≤ 16) (hN25 : view = 2 ∨ view = 5 → x4 = nI N ∧ 1 ≤ N ∧ N ≤ 100)
    (hp0 : (view = 3 ∧ (ed_ms M F (e + 1)).length % N ≠ 0) → ∀ vk, post (h_terms, h_listed, h_kept, h_waits, h_begun, h_has, h_out, b_term, b_list, b_q, b_ev, b_g, b_keptQ, b_keptEv, b_keptG, b_waiting, b_stack, b_met, vk, b_sorted, b_breaks))
    (hp1 : ¬ (view = 3 ∧ (ed_ms M F (e + 1)).length % N ≠ 0) → ∀ vk, (∀ k, F ≤ k → k ≤ e → vk k = ed_bI (ed_vw M tm av view N e k)) → wY_windowOf_230 post (nI s) (nI e) (nI F) h_terms h_listed h_kept h_waits h_begun h_has h_out b_term b_list b_q b_ev b_g b_keptQ b_keptEv b_keptG b_waiting b_stack b_met vk b_sorted b_breaks) :
    ∀ (d j : Nat) (vk : Nat → Int32) (nx : Nat) (x8 : Int32), j = F + d → j ≤ e + 1 → nx < 64 → (view = 5 → nx = (ed_ms M j (e + 1)).headD e ∧ x8 = ed_bI (ed_ch tm N (ed_ms M j (e + 1)))) → (∀ k, j ≤ k → k ≤ e → vk k = ed_bI (ed_vw M tm av view N e k)) → ∀ n, d < n →
      wY_windowOf_61 post (nI s) (nI e) (nI view) x4 (nI F) h_terms h_listed h_kept h_waits h_begun h_has h_out n (nI (ed_ms M j (e + 1)).length) (nI nx) x8 (nI j + (-1)) b_term b_list b_q b_ev b_g b_keptQ b_keptEv b_keptG b_waiting b_stack b_met vk b_sorted b_breaks := by
  intro d
  induction d with
  | zero =>
    intro j vk nx x8 hj hje hnx h5 hvk n hn
    obtain ⟨n, rfl⟩ : ∃ m, n = m + 1 := ⟨n - 1, by omega⟩
    obtain rfl : j = F := by omega
    have hl := ed_ms_len (M := M) (a := j) (b := e + 1)
    rw [wY_windowOf_61]
    refine br_t (ed_pred_lt (by omega)) ?_
    by_cases v3 : view = 3
    · subst v3
      obtain ⟨hx, n1, n2⟩ := hN13 (Or.inr rfl)
      subst hx
      refine br_t rfl ⟨nI_ne0 (by omega) (by omega), ?_⟩
      rw [pk_rem (by omega) (by omega) (by omega)]
      have hml := Nat.mod_lt (ed_ms M j (e + 1)).length (show N > 0 by omega)
      refine pk_eq ((ed_ms M j (e + 1)).length % N) 0 (fun c => ?_) (fun c => ?_)
      · exact hp1 (fun z => z.2 c) vk hvk
      · exact hp0 ⟨rfl, c⟩ vk
    · exact br_f (ec_neL (b := 3) v3 (by omega) (by decide)) (hp1 (fun z => v3 z.1) vk hvk)
  | succ d ih =>
    intro j vk nx x8 hj hje hnx h5 hvk n hn
    obtain ⟨n, rfl⟩ : ∃ m, n = m + 1 := ⟨n - 1, by omega⟩
    obtain ⟨k, rfl⟩ : ∃ m, j = m + 1 := ⟨j - 1, by omega⟩
    rw [wY_windowOf_61, pk_m1]
    dsimp only
    rw [nI_clamp (by omega), hM k (by omega) (by omega)]
    refine br_f (nI_nlt (by omega) (by omega)) ⟨vp_in_nI (by omega) (by omega), nm_e ⟨vp_in_nI (by omega) (by omega), ed_bI_br (fun b => ?_) (fun b => ?_)⟩⟩
    · have go := ih k (upd vk k (vp_nar .boolean 0)) nx x8 (by omega) (by omega) hnx (fun z => by rw [ed_ms_cf (by omega) b]; exact h5 z) (fun i h1 h2 => ?_) n (by omega)
      · rw [ed_ms_cf (by omega) b] at go
        exact nm_e go
      · by_cases c : i = k
        · subst c
          rw [pk_us, ed_nar_0]
          unfold ed_vw
          rw [b]; rfl
        · rw [pk_un c]
          exact hvk i (by omega) h2
    · have mc := ed_ms_ct (M := M) (a := k) (b := e + 1) (by omega) b
      have nxt : ∀ z0, (view = 5 → z0 = ed_bI (ed_ch tm N (ed_ms M k (e + 1)))) → wY_windowOf_117 post (wY_windowOf_61 post (nI s) (nI e) (nI view) x4 (nI F) h_terms h_listed h_kept h_waits h_begun h_has h_out n) (nI s) (nI e) (nI view) x4 (nI F) (nI (ed_ms M (k + 1) (e + 1)).length) (nI k) z0 h_terms h_listed h_kept h_waits h_begun h_has h_out b_term b_list b_q b_ev b_g b_keptQ b_keptEv b_keptG b_waiting b_stack b_met (upd vk k (vp_nar .boolean 0)) b_sorted b_breaks := by
        intro z0 hz
        refine yv_117 (vk := upd vk k (vp_nar .boolean 0)) he hv (by omega) (by omega) hav htm hmono hT hM b hN13 hN25 hz (fun vk' e1 e2 => ?_)
        have go := ih k vk' k z0 (by omega) (by omega) (by omega) (fun z => ⟨by rw [mc]; rfl, hz z⟩) (fun i h1 h2 => ?_) n (by omega)
        · rw [mc] at go
          exact go
        · by_cases c : i = k
          · subst c; exact e1
          · rw [e2 i c, pk_un c]
            exact hvk i (by omega) h2
      have lp : view = 5 → x8 = 0 → (0 : Int32) = ed_bI (ed_ch tm N (ed_ms M k (e + 1))) := by
        intro z x0
        have := (h5 z).2
        rw [x0] at this
        cases hc : ed_ch tm N (ed_ms M k (e + 1)) with
        | false => rfl
        | true =>
          rw [mc] at hc
          rw [ed_ch_tl hc] at this
          exact absurd this (by decide)
      refine br_c (fun c => nxt 0 (fun z => lp z c)) (fun c => ?_)
      refine yw_t hnx (yw_t (by omega) ?_)
      by_cases v5 : view = 5
      · obtain ⟨hx, n1, n2⟩ := hN25 (Or.inr v5)
        obtain ⟨h51, h52⟩ := h5 v5
        have hch : ed_ch tm N (ed_ms M (k + 1) (e + 1)) = true := by
          cases hc : ed_ch tm N (ed_ms M (k + 1) (e + 1)) with
          | true => rfl
          | false => rw [hc] at h52; exact absurd h52 c
        have hnl : nx < e + 1 ∧ k ≤ nx ∧ ed_ch tm N (ed_ms M k (e + 1)) = decide (tm nx - tm k < N) := by
          rw [mc]
          cases hms : ed_ms M (k + 1) (e + 1) with
          | nil =>
            have hke : k = e := by
              by_cases z : k = e
              · exact z
              · have : e ∈ ed_ms M (k + 1) (e + 1) := ed_ms_mem.mpr ⟨⟨by omega, by omega⟩, me⟩
                rw [hms] at this
                cases this
            rw [hms] at h51
            have h51 : nx = e := h51
            rw [h51, hke, Nat.sub_self, decide_eq_true (by omega)]
            exact ⟨by omega, by omega, rfl⟩
          | cons i r =>
            have hi := ed_ms_mem.mp (show i ∈ ed_ms M (k + 1) (e + 1) by rw [hms]; exact List.mem_cons_self)
            rw [hms] at h51 hch
            have h51 : nx = i := h51
            rw [h51]
            refine ⟨by omega, by omega, ?_⟩
            show (decide (tm i - tm k < N) && ed_ch tm N (i :: r)) = _
            rw [hch, Bool.and_true]
        rw [htm nx hnl.1, htm k (by omega), pk_sub (hmono k nx hnl.2.1 hnl.1), hx]
        have hb := hmono nx e (by omega) (by omega)
        refine pk_le N (tm nx - tm k) (fun g => ?_) (fun g => ?_)
        · have := nxt 0 (fun _ => by rw [hnl.2.2, decide_eq_false (by omega)]; rfl)
          rw [hx] at this
          exact this
        · have := nxt 1 (fun _ => by rw [hnl.2.2, decide_eq_true g]; rfl)
          rw [hx] at this
          exact this
      · exact br_c (fun _ => nxt 0 (fun z => absurd z v5)) (fun _ => nxt 1 (fun z => absurd z v5))
theorem yv_302 {W : Nat → Bool} (hs : s < 6) (he : e < 64) (hF : F ≤ e) (hw : how ≤ 5) (h3 : b_q (100 * s + 3) = nI how) (hbv : ∀ k, k < e + 1 → b_ev (4 * k + 2) = bv k) (hW : ∀ k, F ≤ k → k ≤ e → b_view k = ed_bI (W k)) (hWe : W e = true)
    (hp : ∀ srt, post (h_terms, h_listed, h_kept, h_waits, h_begun, h_has, (ed_tot how (ed_srt ((ed_ms W F (e + 1)).map bv))), b_term, b_list, b_q, b_ev, b_g, b_keptQ, b_keptEv, b_keptG, b_waiting, b_stack, b_met, b_view, srt, b_breaks)) : wY_windowOf_302 post (nI s) (nI e) (nI F) h_terms h_listed h_kept h_waits h_begun h_has h_out b_term b_list b_q b_ev b_g b_keptQ b_keptEv b_keptG b_waiting b_stack b_met b_view b_sorted b_breaks := by
  have q : (100 : Int32) * nI s + 3 = nI (100 * s + 3) := by rw [← nI_add, ← pk_mul]; rfl
  unfold wY_windowOf_302
  rw [q, nI_clamp (by omega), h3]
  exact ⟨vp_in_nI (by omega) (by omega), yt_total he hF hw hbv hW hWe hp⟩
theorem yv_254 {W : Nat → Bool} (hs : s < 6) (he : e < 64) (hF : F ≤ e) (hav : ∀ k, k < e + 1 → b_ev (4 * k + 1) = av k) 
    (K : ∀ vk, (∀ k, F ≤ k → k ≤ e → vk k = ed_bI (W k && av k == av e)) → wY_windowOf_302 post (nI s) (nI e) (nI F) h_terms h_listed h_kept h_waits h_begun h_has h_out b_term b_list b_q b_ev b_g b_keptQ b_keptEv b_keptG b_waiting b_stack b_met vk b_sorted b_breaks) :
    ∀ (d j : Nat) (vk : Nat → Int32), j + d = e + 1 → F ≤ j → (∀ k, F ≤ k → k < j → vk k = ed_bI (W k && av k == av e)) → (∀ k, j ≤ k → k ≤ e → vk k = ed_bI (W k)) → ∀ n, d < n →
      wY_windowOf_254 post (nI s) (nI e) (nI F) h_terms h_listed h_kept h_waits h_begun h_has h_out n (nI j) b_term b_list b_q b_ev b_g b_keptQ b_keptEv b_keptG b_waiting b_stack b_met vk b_sorted b_breaks := by
  intro d
  induction d with
  | zero =>
    intro j vk hj hFj h1 h2 n hn
    obtain ⟨n, rfl⟩ : ∃ m, n = m + 1 := ⟨n - 1, by omega⟩
    obtain rfl : j = e + 1 := by omega
    rw [wY_windowOf_254]
    exact br_t (nI_lt (by omega) (by omega)) (K vk (fun k a b => h1 k a (by omega)))
  | succ d ih =>
    intro j vk hj hFj h1 h2 n hn
    obtain ⟨n, rfl⟩ : ∃ m, n = m + 1 := ⟨n - 1, by omega⟩
    have step : ∀ b : Bool, b = (W j && av j == av e) → wY_windowOf_254 post (nI s) (nI e) (nI F) h_terms h_listed h_kept h_waits h_begun h_has h_out n (nI (j + 1)) b_term b_list b_q b_ev b_g b_keptQ b_keptEv b_keptG b_waiting b_stack b_met (upd vk j (vp_nar .boolean (ed_bI b))) b_sorted b_breaks := by
      intro b hb
      refine ih (j + 1) _ (by omega) (by omega) (fun k a c => ?_) (fun k a c => ?_) n (by omega)
      · by_cases g : k = j
        · subst g; rw [pk_us, ed_nar_b, hb]
        · rw [pk_un g]; exact h1 k a (by omega)
      · rw [pk_un (by omega)]; exact h2 k (by omega) c
    rw [wY_windowOf_254]
    dsimp only
    rw [nI_clamp (by omega), h2 j (Nat.le_refl _) (by omega)]
    refine br_f (nI_nlt (by omega) (by omega)) ⟨vp_in_nI (by omega) (by omega), ed_bI_br (fun b => ?_) (fun b => ?_)⟩
    · exact ⟨vp_in_nI (by omega) (by omega), nm_e (nm_r (nI_1 _) (step false (by rw [b]; rfl)))⟩
    · refine yw_a (by omega) (yw_a (by omega) ?_)
      rw [hav _ (by omega), hav _ (by omega)]
      refine br_c (fun c => ?_) (fun c => ?_)
      · exact ⟨vp_in_nI (by omega) (by omega), nm_e (nm_r (nI_1 _) (step true (by rw [b, c]; simp)))⟩
      · exact ⟨vp_in_nI (by omega) (by omega), nm_e (nm_r (nI_1 _) (step false (by rw [b, beq_false_of_ne c]; rfl)))⟩
theorem yv_windowOf (hs : s < 6) (he : e < 64) (hv : view ≤ 5) (hF : F ≤ e) (hav : ∀ k, k < e + 1 → b_ev (4 * k + 1) = av k) (hbv : ∀ k, k < e + 1 → b_ev (4 * k + 2) = bv k) (htm : ∀ k, k < e + 1 → b_ev (4 * k + 3) = nI (tm k)) (hmono : ∀ a b, a ≤ b → b < e + 1 → tm a ≤ tm b) (hT : tm e < 2 ^ 31)
    (hM : ∀ j, F ≤ j → j ≤ e → b_met j = ed_bI (M j)) (h1 : b_q (100 * s + 1) = nI view) (h2 : b_q (100 * s + 2) = x4) (h3 : b_q (100 * s + 3) = nI how) (hw : how ≤ 5) (h4 : b_q (100 * s + 4) = fl) (h9 : b_q (100 * s + 9) = nI F)
    (hN13 : view = 1 ∨ view = 3 → x4 = nI N ∧ 1 ≤ N ∧ N ≤ 16) (hN25 : view = 2 ∨ view = 5 → x4 = nI N ∧ 1 ≤ N ∧ N ≤ 100)
    (hpf : M e = false → post (h_terms, h_listed, h_kept, h_waits, h_begun, h_has, h_out, b_term, b_list, b_q, b_ev, b_g, b_keptQ, b_keptEv, b_keptG, b_waiting, b_stack, b_met, b_view, b_sorted, b_breaks)) (hp0 : M e = true → (view = 3 ∧ (ed_ms M F (e + 1)).length % N ≠ 0) → ∀ vk, post (h_terms, h_listed, h_kept, h_waits, h_begun, h_has, h_out, b_term, b_list, b_q, b_ev, b_g, b_keptQ, b_keptEv, b_keptG, b_waiting, b_stack, b_met, vk, b_sorted, b_breaks))
    (hp1 : M e = true → ¬ (view = 3 ∧ (ed_ms M F (e + 1)).length % N ≠ 0) → ∀ vk srt, post (h_terms, h_listed, h_kept, h_waits, h_begun, 1, (ed_tot how (ed_srt (((ed_vl M tm av view N F e).filter (fun k => ew_gp fl av k == ew_gp fl av e)).map bv))), b_term, b_list, b_q, b_ev, b_g, b_keptQ, b_keptEv, b_keptG, b_waiting, b_stack, b_met, vk, srt, b_breaks)) :
    wpY_windowOf post (h_terms, h_listed, h_kept, h_waits, h_begun, h_has, h_out, b_term, b_list, b_q, b_ev, b_g, b_keptQ, b_keptEv, b_keptG, b_waiting, b_stack, b_met, b_view, b_sorted, b_breaks) (nI s) (nI e) := by
  have q : ∀ c : Nat, (100 : Int32) * nI s + nI c = nI (100 * s + c) := fun c => by rw [← nI_add, ← pk_mul]; rfl
  have q1 : (100 : Int32) * nI s + 1 = nI (100 * s + 1) := q 1
  have q2 : (100 : Int32) * nI s + 2 = nI (100 * s + 2) := q 2
  have q4 : (100 : Int32) * nI s + 4 = nI (100 * s + 4) := q 4
  have q9 : (100 : Int32) * nI s + 9 = nI (100 * s + 9) := q 9
  unfold wpY_windowOf
  dsimp only
  rw [q1, q2, q9, nI_clamp (by omega), nI_clamp (by omega), nI_clamp (by omega), nI_clamp (by omega), hM e hF (Nat.le_refl _), h1, h2, h9]
  refine ⟨vp_in_nI (by omega) (by omega), ed_bI_br hpf (fun me => ⟨vp_in_nI (by omega) (by omega), nm_e ⟨vp_in_nI (by omega) (by omega), nm_e ⟨vp_in_nI (by omega) (by omega), nm_e ⟨e + 2 - F, ?_⟩⟩⟩⟩)⟩
  have vse : ed_vw M tm av view N e e = true := ed_vw_self me hv (fun z => by
    rcases z with z | z | z
    · exact (hN13 (Or.inl z)).2.1
    · exact (hN25 (Or.inl z)).2.1
    · exact (hN13 (Or.inr z)).2.1)
  have go := yv_61 (post := post) (h_terms := h_terms) (h_listed := h_listed) (h_kept := h_kept) (h_waits := h_waits) (h_begun := h_begun) (h_has := h_has) (h_out := h_out) (b_term := b_term) (b_list := b_list) (b_q := b_q) (b_ev := b_ev) (b_g := b_g) (b_keptQ := b_keptQ) (b_keptEv := b_keptEv) (b_keptG := b_keptG) (b_waiting := b_waiting) (b_stack := b_stack) (b_met := b_met) (b_sorted := b_sorted) (b_breaks := b_breaks) hs he hv hF hav htm hmono hT hM me hN13 hN25 (hp0 me) (fun nz vk hvk => ?_) (e + 1 - F) (e + 1) b_view e 1 (by omega) (by omega) he (fun _ => by rw [ed_ms_nil (Nat.le_refl _)]; exact ⟨rfl, rfl⟩) (fun k a b => by omega) (e + 2 - F) (by omega)
  · rw [ed_ms_nil (Nat.le_refl _), pk_m1] at go
    exact go
  · unfold wY_windowOf_230
    rw [q4, nI_clamp (by omega), h4]
    refine ⟨vp_in_nI (by omega) (by omega), br_c (fun c => ⟨e + 2 - F, ?_⟩) (fun c => ?_)⟩
    · refine yv_254 (W := ed_vw M tm av view N e) hs he hF hav (fun vk' hvk' => ?_) (e + 1 - F) F vk (by omega) (Nat.le_refl _) (fun k a b => by omega) hvk (e + 2 - F) (by omega)
      refine yv_302 (W := fun k => ed_vw M tm av view N e k && av k == av e) hs he hF hw h3 hbv hvk' (by rw [vse]; simp) (fun srt => ?_)
      have e1 : ed_ms (fun k => ed_vw M tm av view N e k && av k == av e) F (e + 1) = (ed_vl M tm av view N F e).filter (fun k => ew_gp fl av k == ew_gp fl av e) := by
        unfold ed_vl ed_ms
        rw [List.filter_filter]
        refine List.filter_congr (fun k _ => ?_)
        unfold ew_gp
        rw [if_pos c, if_pos c, Bool.and_comm]
      rw [e1]
      exact hp1 me nz vk' srt
    · refine yv_302 (W := ed_vw M tm av view N e) hs he hF hw h3 hbv hvk vse (fun srt => ?_)
      have e1 : ed_ms (ed_vw M tm av view N e) F (e + 1) = (ed_vl M tm av view N F e).filter (fun k => ew_gp fl av k == ew_gp fl av e) := by
        unfold ed_vl
        rw [List.filter_eq_self.mpr]
        intro k _
        unfold ew_gp
        rw [if_neg c, if_neg c]
        rfl
      rw [e1]
      exact hp1 me nz vk srt
end
end
section
/-! the reference's patterns -/
def yp_bc (ty : Nat → Int32) (stop : Int32) (F k : Nat) : Nat := (ed_ms (fun m => ty m == stop) F k).length
theorem ed_ms_split {M : Nat → Bool} {a b c : Nat} (h1 : a ≤ b) (h2 : b ≤ c) : ed_ms M a c = ed_ms M a b ++ ed_ms M b c := by
  unfold ed_ms
  rw [← List.filter_append]
  congr 1
  rw [show c - a = (b - a) + (c - b) by omega]
  have := List.range'_append_1 (s := a) (m := b - a) (n := c - b)
  rw [show a + (b - a) = b by omega] at this
  exact this.symm
theorem yp_bc_nb {ty : Nat → Int32} {stop : Int32} {F i j : Nat} (hF : F ≤ i) (h : i < j) : (yp_bc ty stop F j = yp_bc ty stop F (i + 1)) ↔ ep_nb ty stop i j = true := by
  unfold yp_bc
  rw [ed_ms_split (show F ≤ i + 1 by omega) (show i + 1 ≤ j from h), List.length_append]
  unfold ep_nb
  rw [List.all_eq_true]
  constructor
  · intro z m hm
    have hn : ed_ms (fun m => ty m == stop) (i + 1) j = [] := List.eq_nil_of_length_eq_zero (by omega)
    cases c : (ty m == stop) with
    | false => rfl
    | true =>
      have : m ∈ ed_ms (fun m => ty m == stop) (i + 1) j := ed_ms_mem.mpr ⟨ed_rg_mem.mp hm, c⟩
      rw [hn] at this
      cases this
  · intro z
    have hn : ed_ms (fun m => ty m == stop) (i + 1) j = [] := by
      unfold ed_ms
      rw [List.filter_eq_nil_iff]
      intro m hm
      have := z m hm
      simpa using this
    rw [hn]
    rfl
theorem yp_bc_le {ty : Nat → Int32} {stop : Int32} {F k : Nat} : yp_bc ty stop F k ≤ k := by
  have := ed_ms_len (M := fun m => ty m == stop) (a := F) (b := k)
  unfold yp_bc
  omega
def yp_mt (ty av : Nat → Int32) (stop : Int32) (M0 M1 Ml : Nat → Bool) (tm : Nat → Nat) (eq st2 : Bool) (N f k : Nat) : Nat :=
  if (M0 f && decide (tm k - tm f < N)) = true then ep_mt ty av stop M1 Ml eq st2 f k else 0
theorem ep_mt_le {ty av : Nat → Int32} {stop : Int32} {M1 Ml : Nat → Bool} {eq st2 : Bool} {f e : Nat} (hf : f < e) : ep_mt ty av stop M1 Ml eq st2 f e ≤ e := by
  unfold ep_mt
  split
  · split
    · split <;> omega
    · have := ed_ms_len (M := fun m => M1 m && ep_fo ty av stop eq f m && ep_fo ty av stop eq m e) (a := f + 1) (b := e)
      omega
  · omega
section
variable {h_terms h_listed h_kept h_waits h_begun h_has h_out : Int32} {b_term b_list b_q b_ev b_g b_keptQ b_keptEv b_keptG b_waiting b_stack b_met b_view b_sorted b_breaks : Nat → Int32} {s e F f k C N : Nat} {ty av : Nat → Int32} {stop : Int32} {M0 M1 Ml : Nat → Bool} {tm : Nat → Nat} {eq : Bool} {post : Int32 → Prop}
theorem yp_follow (hs : s < 6) (he : e < 64) (hF : F ≤ f) (hf : f < k) (hk : k ≤ e) (h3 : b_q (100 * s + 3) = ed_bI eq) (hav : ∀ k, k < e + 1 → b_ev (4 * k + 1) = av k) (hb : ∀ k, F ≤ k → k ≤ e + 1 → b_breaks k = nI (yp_bc ty stop F k))
    (hp : post (ed_bI (ep_fo ty av stop eq f k))) : wpY_follow post (h_terms, h_listed, h_kept, h_waits, h_begun, h_has, h_out, b_term, b_list, b_q, b_ev, b_g, b_keptQ, b_keptEv, b_keptG, b_waiting, b_stack, b_met, b_view, b_sorted, b_breaks) (nI s) (nI f) (nI k) := by
  have q : (100 : Int32) * nI s + 3 = nI (100 * s + 3) := by rw [← nI_add, ← pk_mul]; rfl
  have b1 := yp_bc_le (ty := ty) (stop := stop) (F := F) (k := k)
  have b2 := yp_bc_le (ty := ty) (stop := stop) (F := F) (k := f + 1)
  have nb := yp_bc_nb (ty := ty) (stop := stop) hF hf
  unfold wpY_follow
  dsimp only
  rw [nI_1, nI_clamp (by omega), nI_clamp (by omega), hb k (by omega) (by omega), hb (f + 1) (by omega) (by omega), q, nI_clamp (by omega), h3]
  unfold ep_fo at hp
  refine ⟨vp_in_nI (by omega) (by omega), vp_in_nI (by omega) (by omega), pk_eq (yp_bc ty stop F k) (yp_bc ty stop F (f + 1)) (fun c => ?_) (fun c => ?_)⟩
  · rw [nb.mp c, Bool.true_and] at hp
    refine ⟨vp_in_nI (by omega) (by omega), ed_bI_br (fun b => ?_) (fun b => ?_)⟩
    · rw [b] at hp; exact hp
    · rw [b] at hp
      refine yw_a (by omega) (yw_a (by omega) ?_)
      rw [hav _ (by omega), hav _ (by omega)]
      refine br_c (fun d => ?_) (fun d => ?_)
      · rw [beq_iff_eq.mpr d] at hp; exact hp
      · rw [beq_false_of_ne d] at hp; exact hp
  · have : ep_nb ty stop f k = false := by
      cases z : ep_nb ty stop f k with
      | false => rfl
      | true => exact absurd (nb.mpr z) c
    rw [this] at hp
    exact hp
theorem yp_97 (hs : s < 6) (he : e < 64) (hF : F ≤ f) (hf : f < k) (hk : k ≤ e) (h3 : b_q (100 * s + 3) = ed_bI eq) (hav : ∀ k, k < e + 1 → b_ev (4 * k + 1) = av k) (hb : ∀ k, F ≤ k → k ≤ e + 1 → b_breaks k = nI (yp_bc ty stop F k))
    (hM1 : ∀ k, F ≤ k → k ≤ e → b_met (64 + k) = ed_bI (M1 k)) (hp : post (nI (ed_ms (fun m => M1 m && ep_fo ty av stop eq f m && ep_fo ty av stop eq m k) (f + 1) k).length)) :
    ∀ d m, m + d = k → f < m → ∀ n, d < n → wY_matches_97 post (nI s) (nI f) (nI k) h_terms h_listed h_kept h_waits h_begun h_has h_out b_term b_list b_q b_ev b_g b_keptQ b_keptEv b_keptG b_waiting b_stack b_met b_view b_sorted b_breaks n (nI (ed_ms (fun m => M1 m && ep_fo ty av stop eq f m && ep_fo ty av stop eq m k) (f + 1) m).length) (nI m) := by
  intro d
  induction d with
  | zero =>
    intro m hm hfm n hn
    obtain ⟨n, rfl⟩ : ∃ m, n = m + 1 := ⟨n - 1, by omega⟩
    obtain rfl : m = k := by omega
    rw [wY_matches_97]
    exact br_t (Int32.le_refl _) hp
  | succ d ih =>
    intro m hm hfm n hn
    obtain ⟨n, rfl⟩ : ∃ m, n = m + 1 := ⟨n - 1, by omega⟩
    have go := ih (m + 1) (by omega) (by omega) n (by omega)
    have q : (64 : Int32) + nI m = nI (64 + m) := nI_add 64 m
    rw [wY_matches_97]
    dsimp only
    rw [q, nI_clamp (by omega), hM1 m (by omega) (by omega)]
    refine br_f (nI_ge (by omega) (by omega)) ⟨vp_in_nI (by omega) (by omega), ed_bI_br (fun b => ?_) (fun b => ?_)⟩
    · rw [ed_ms_f (by omega) (by rw [b]; rfl)] at go
      exact nm_r (nI_1 _) go
    · refine yp_follow hs he hF hfm (by omega) h3 hav hb (ed_bI_br (fun b2 => ?_) (fun b2 => ?_))
      · rw [ed_ms_f (by omega) (by rw [b2]; simp)] at go
        exact nm_r (nI_1 _) go
      · refine yp_follow hs he (by omega) (by omega) hk h3 hav hb (ed_bI_br (fun b3 => ?_) (fun b3 => ?_))
        · rw [ed_ms_f (by omega) (by rw [b3]; simp)] at go
          exact nm_r (nI_1 _) go
        · rw [ed_ms_t (by omega) (by rw [b, b2, b3]; rfl), List.length_append, List.length_singleton] at go
          exact nm_r (nI_1 _) (nm_r (nI_1 _) go)
theorem yp_matches (hs : s < 6) (he : e < 64) (hF : F ≤ f) (hf : f < k) (hk : k ≤ e) (hC2 : 2 ≤ C) (hC : C ≤ 3) (hN : N ≤ 1000) (h1 : b_q (100 * s + 1) = nI N) (h3 : b_q (100 * s + 3) = ed_bI eq) (h20 : b_q (100 * s + 20) = nI C) (hav : ∀ k, k < e + 1 → b_ev (4 * k + 1) = av k)
    (htm : ∀ k, k < e + 1 → b_ev (4 * k + 3) = nI (tm k)) (hmono : ∀ a b, a ≤ b → b < e + 1 → tm a ≤ tm b) (hT : tm e < 2 ^ 31) (hb : ∀ k, F ≤ k → k ≤ e + 1 → b_breaks k = nI (yp_bc ty stop F k))
    (hM0 : ∀ k, F ≤ k → k ≤ e → b_met k = ed_bI (M0 k)) (hM1 : ∀ k, F ≤ k → k ≤ e → b_met (64 + k) = ed_bI (M1 k)) (hMl : ∀ k, F ≤ k → k ≤ e → b_met (64 * (C - 1) + k) = ed_bI (Ml k))
    (hp : post (nI (yp_mt ty av stop M0 M1 Ml tm eq (decide (C = 2)) N f k))) : wpY_matches post (h_terms, h_listed, h_kept, h_waits, h_begun, h_has, h_out, b_term, b_list, b_q, b_ev, b_g, b_keptQ, b_keptEv, b_keptG, b_waiting, b_stack, b_met, b_view, b_sorted, b_breaks) (nI s) (nI f) (nI k) := by
  have q : ∀ c : Nat, (100 : Int32) * nI s + nI c = nI (100 * s + c) := fun c => by rw [← nI_add, ← pk_mul]; rfl
  have q1 : (100 : Int32) * nI s + 1 = nI (100 * s + 1) := q 1
  have q20 : (100 : Int32) * nI s + 20 = nI (100 * s + 20) := q 20
  have qC : nI C - 1 = nI (C - 1) := pk_sub (b := 1) (by omega)
  have qm : (64 : Int32) * nI (C - 1) + nI k = nI (64 * (C - 1) + k) := by rw [← nI_add, ← pk_mul]; rfl
  have t1 := hmono f k (by omega) (by omega)
  have t2 := hmono k e (by omega) (by omega)
  have z0 : ∀ {z : Bool}, (M0 f && decide (tm k - tm f < N)) = false → post 0 := by
    intro z hz
    unfold yp_mt at hp
    rw [hz] at hp
    exact hp
  unfold wpY_matches
  dsimp only
  rw [q20, nI_clamp (by omega), h20, nI_clamp (by omega), hM0 f hF (by omega)]
  refine ⟨vp_in_nI (by omega) (by omega), nm_r qC ⟨vp_in_nI (by omega) (by omega), ed_bI_br (fun b => z0 (z := true) (by rw [b]; rfl)) (fun b => ?_)⟩⟩
  rw [qm, nI_clamp (by omega), hMl k (by omega) hk]
  refine ⟨vp_in_nI (by omega) (by omega), ed_bI_br (fun b2 => ?_) (fun b2 => ?_)⟩
  · have e0 : yp_mt ty av stop M0 M1 Ml tm eq (decide (C = 2)) N f k = 0 := by
      unfold yp_mt ep_mt
      rw [b2]
      split <;> rfl
    rw [e0] at hp
    exact hp
  · refine yw_t (by omega) (yw_t (by omega) ?_)
    rw [htm k (by omega), htm f (by omega), pk_sub t1, q1, nI_clamp (by omega), h1]
    refine ⟨vp_in_nI (by omega) (by omega), pk_lt (tm k - tm f) N (fun c => ?_) (fun c => z0 (z := true) (by rw [decide_eq_false (by omega), Bool.and_false]))⟩
    have e1 : yp_mt ty av stop M0 M1 Ml tm eq (decide (C = 2)) N f k = (if decide (C = 2) = true then (if ep_fo ty av stop eq f k = true then 1 else 0) else (ed_ms (fun m => M1 m && ep_fo ty av stop eq f m && ep_fo ty av stop eq m k) (f + 1) k).length) := by
      unfold yp_mt ep_mt
      rw [b, decide_eq_true c, b2]
      rfl
    rw [e1] at hp
    by_cases c2 : C = 2
    · rw [decide_eq_true c2, if_pos rfl] at hp
      subst c2
      refine br_t rfl (yp_follow hs he hF hf hk h3 hav hb (ed_bI_br (fun b3 => ?_) (fun b3 => ?_)))
      · rw [b3] at hp; exact hp
      · rw [b3] at hp; exact hp
    · rw [decide_eq_false c2, if_neg (by decide)] at hp
      refine br_f (ec_neL (b := 1) (by omega) (by omega) (by decide)) (nm_r (nI_1 _) ⟨k - f, ?_⟩)
      have := yp_97 (post := post) (ty := ty) (av := av) (stop := stop) (M1 := M1) (eq := eq) (F := F) (h_terms := h_terms) (h_listed := h_listed) (h_kept := h_kept) (h_waits := h_waits) (h_begun := h_begun) (h_has := h_has) (h_out := h_out) (b_term := b_term) (b_list := b_list) (b_q := b_q) (b_ev := b_ev) (b_g := b_g) (b_keptQ := b_keptQ) (b_keptEv := b_keptEv) (b_keptG := b_keptG) (b_waiting := b_waiting) (b_stack := b_stack) (b_met := b_met) (b_view := b_view) (b_sorted := b_sorted) (b_breaks := b_breaks) hs he hF hf hk h3 hav hb hM1 hp (k - (f + 1)) (f + 1) (by omega) (by omega) (k - f) (by omega)
      rw [ed_ms_nil (Nat.le_refl _)] at this
      exact this
end
end
section
/-! patternOf -/
section
variable {h_terms h_listed h_kept h_waits h_begun h_has h_out : Int32} {b_term b_list b_q b_ev b_g b_keptQ b_keptEv b_keptG b_waiting b_stack b_met b_view b_sorted b_breaks : Nat → Int32} {s e F f C N : Nat} {ty av : Nat → Int32} {stop : Int32} {M0 M1 Ml : Nat → Bool} {tm : Nat → Nat} {eq once : Bool} {post : SY → Prop}
/-- what a first event adds, as the reference finds it -/
def yp_vl (ty av : Nat → Int32) (stop : Int32) (M0 M1 Ml : Nat → Bool) (tm : Nat → Nat) (eq st2 once : Bool) (N f e : Nat) : Nat :=
  if (once && (List.range' (f + 1) (e - (f + 1))).any (fun k => decide (0 < yp_mt ty av stop M0 M1 Ml tm eq st2 N f k))) = true then 0 else yp_mt ty av stop M0 M1 Ml tm eq st2 N f e
theorem yp_vl_eq {st2 : Bool} (hf : f < e) (hmono : ∀ a b, a ≤ b → b < e + 1 → tm a ≤ tm b) : yp_vl ty av stop M0 M1 Ml tm eq st2 once N f e = if (M0 f && decide (tm e - tm f < N)) = true then ep_vl ty av stop M1 Ml eq st2 once f e else 0 := by
  unfold yp_vl
  cases c : (M0 f && decide (tm e - tm f < N)) with
  | false =>
    have e0 : yp_mt ty av stop M0 M1 Ml tm eq st2 N f e = 0 := by unfold yp_mt; rw [c]; rfl
    rw [e0, if_neg (show ¬ false = true by decide)]
    split <;> rfl
  | true =>
    rw [Bool.and_eq_true, decide_eq_true_eq] at c
    have e1 : ∀ k, k ≤ e → f ≤ k → yp_mt ty av stop M0 M1 Ml tm eq st2 N f k = ep_mt ty av stop M1 Ml eq st2 f k := by
      intro k hk hfk
      have := hmono k e hk (by omega)
      unfold yp_mt
      rw [c.1, decide_eq_true (by omega)]; rfl
    have e2 : (once && (List.range' (f + 1) (e - (f + 1))).any (fun k => decide (0 < yp_mt ty av stop M0 M1 Ml tm eq st2 N f k))) = ep_gn ty av stop M1 Ml eq st2 once f e := by
      unfold ep_gn
      congr 1
      rw [Bool.eq_iff_iff, List.any_eq_true, List.any_eq_true]
      constructor
      · rintro ⟨k, hk, h⟩
        have hk2 := ed_rg_mem.mp hk
        rw [e1 k (by omega) (by omega)] at h
        exact ⟨k, hk, h⟩
      · rintro ⟨k, hk, h⟩
        have hk2 := ed_rg_mem.mp hk
        rw [← e1 k (by omega) (by omega)] at h
        exact ⟨k, hk, h⟩
    rw [e2, e1 e (Nat.le_refl e) (by omega), if_pos rfl]
    rfl
theorem yp_132 {J : Int32 → Int32 → Prop} {out : Int32} (hs : s < 6) (he : e < 64) (hF : F ≤ f) (hf : f < e) (hC2 : 2 ≤ C) (hC : C ≤ 3) (hN : N ≤ 1000) (h1 : b_q (100 * s + 1) = nI N) (h3 : b_q (100 * s + 3) = ed_bI eq) (h4 : b_q (100 * s + 4) = ed_bI once) (h20 : b_q (100 * s + 20) = nI C) (hav : ∀ k, k < e + 1 → b_ev (4 * k + 1) = av k)
    (htm : ∀ k, k < e + 1 → b_ev (4 * k + 3) = nI (tm k)) (hmono : ∀ a b, a ≤ b → b < e + 1 → tm a ≤ tm b) (hT : tm e < 2 ^ 31) (hb : ∀ k, F ≤ k → k ≤ e + 1 → b_breaks k = nI (yp_bc ty stop F k))
    (hM0 : ∀ k, F ≤ k → k ≤ e → b_met k = ed_bI (M0 k)) (hM1 : ∀ k, F ≤ k → k ≤ e → b_met (64 + k) = ed_bI (M1 k)) (hMl : ∀ k, F ≤ k → k ≤ e → b_met (64 * (C - 1) + k) = ed_bI (Ml k))
    (K : J (nI (f + 1)) (out + nI (yp_vl ty av stop M0 M1 Ml tm eq (decide (C = 2)) once N f e))) :
    ∀ d k, k + d = e → f < k → (List.range' (f + 1) (k - (f + 1))).any (fun k => decide (0 < yp_mt ty av stop M0 M1 Ml tm eq (decide (C = 2)) N f k)) = false → ∀ n, d + 1 < n →
      wY_patternOf_132 post J (nI s) (nI e) (nI f) h_terms h_listed h_kept h_waits h_begun h_has out b_term b_list b_q b_ev b_g b_keptQ b_keptEv b_keptG b_waiting b_stack b_met b_view b_sorted b_breaks n 0 (nI k) := by
  have q4 : (100 : Int32) * nI s + 4 = nI (100 * s + 4) := by rw [← nI_add, ← pk_mul]; rfl
  have mle : ∀ k, f < k → yp_mt ty av stop M0 M1 Ml tm eq (decide (C = 2)) N f k ≤ k := by
    intro k hk
    unfold yp_mt
    split
    · exact ep_mt_le hk
    · omega
  have go0 : (once && (List.range' (f + 1) (e - (f + 1))).any (fun k => decide (0 < yp_mt ty av stop M0 M1 Ml tm eq (decide (C = 2)) N f k))) = false → wY_patternOf_183 post J (nI s) (nI e) (nI f) 0 h_terms h_listed h_kept h_waits h_begun h_has out b_term b_list b_q b_ev b_g b_keptQ b_keptEv b_keptG b_waiting b_stack b_met b_view b_sorted b_breaks := by
    intro g
    unfold wY_patternOf_183
    refine br_t rfl (yp_matches hs he hF hf (Nat.le_refl e) hC2 hC hN h1 h3 h20 hav htm hmono hT hb hM0 hM1 hMl ?_)
    unfold yp_vl at K
    rw [g, if_neg (by decide)] at K
    exact nm_e (nm_r (nI_1 _) K)
  have go1 : (once && (List.range' (f + 1) (e - (f + 1))).any (fun k => decide (0 < yp_mt ty av stop M0 M1 Ml tm eq (decide (C = 2)) N f k))) = true → wY_patternOf_183 post J (nI s) (nI e) (nI f) 1 h_terms h_listed h_kept h_waits h_begun h_has out b_term b_list b_q b_ev b_g b_keptQ b_keptEv b_keptG b_waiting b_stack b_met b_view b_sorted b_breaks := by
    intro g
    unfold wY_patternOf_183
    unfold yp_vl at K
    rw [g, if_pos rfl] at K
    refine br_f (by decide) (nm_r (nI_1 _) ?_)
    have K : J (nI (f + 1)) (out + 0) := K
    rw [Int32.add_zero] at K
    exact K
  intro d
  induction d with
  | zero =>
    intro k hk hfk hany n hn
    obtain ⟨n, rfl⟩ : ∃ m, n = m + 1 := ⟨n - 1, by omega⟩
    obtain rfl : k = e := by omega
    rw [wY_patternOf_132]
    exact br_t (Int32.le_refl _) (go0 (by rw [hany, Bool.and_false]))
  | succ d ih =>
    intro k hk hfk hany n hn
    obtain ⟨n, rfl⟩ : ∃ m, n = m + 1 := ⟨n - 1, by omega⟩
    rw [wY_patternOf_132]
    dsimp only
    rw [q4, nI_clamp (by omega), h4]
    refine br_f (nI_ge (by omega) (by omega)) ⟨vp_in_nI (by omega) (by omega), ed_bI_br1 (fun b => br_t rfl ?_) (fun b => go0 (by rw [b]; rfl))⟩
    refine yp_matches hs he hF hfk (by omega) hC2 hC hN h1 h3 h20 hav htm hmono hT hb hM0 hM1 hMl ?_
    have ml := mle k hfk
    have snoc := ed_rg_snoc (show f + 1 ≤ k from hfk)
    refine pk_le (yp_mt ty av stop M0 M1 Ml tm eq (decide (C = 2)) N f k) 0 (fun c => ?_) (fun c => ?_)
    · refine nm_r (nI_1 _) (ih (k + 1) (by omega) (by omega) ?_ n (by omega))
      rw [snoc, List.any_append, hany]
      simp; omega
    · refine nm_r (nI_1 _) ?_
      have any1 : (List.range' (f + 1) (e - (f + 1))).any (fun k => decide (0 < yp_mt ty av stop M0 M1 Ml tm eq (decide (C = 2)) N f k)) = true := by
        rw [List.any_eq_true]
        exact ⟨k, ed_rg_mem.mpr ⟨by omega, by omega⟩, decide_eq_true c⟩
      have fin := go1 (by rw [any1, b]; rfl)
      obtain ⟨n, rfl⟩ : ∃ m, n = m + 1 := ⟨n - 1, by omega⟩
      rw [wY_patternOf_132]
      dsimp only
      refine br_c (fun _ => fin) (fun _ => ?_)
      rw [q4, nI_clamp (by omega), h4]
      exact ⟨vp_in_nI (by omega) (by omega), br_c (fun _ => br_f (by decide) fin) (fun _ => fin)⟩
theorem yp_117 (hs : s < 6) (he : e < 64) (hFe : F ≤ e) (hC2 : 2 ≤ C) (hC : C ≤ 3) (hN : N ≤ 1000) (h1 : b_q (100 * s + 1) = nI N) (h3 : b_q (100 * s + 3) = ed_bI eq) (h4 : b_q (100 * s + 4) = ed_bI once) (h20 : b_q (100 * s + 20) = nI C) (hav : ∀ k, k < e + 1 → b_ev (4 * k + 1) = av k)
    (htm : ∀ k, k < e + 1 → b_ev (4 * k + 3) = nI (tm k)) (hmono : ∀ a b, a ≤ b → b < e + 1 → tm a ≤ tm b) (hT : tm e < 2 ^ 31) (hb : ∀ k, F ≤ k → k ≤ e + 1 → b_breaks k = nI (yp_bc ty stop F k))
    (hM0 : ∀ k, F ≤ k → k ≤ e → b_met k = ed_bI (M0 k)) (hM1 : ∀ k, F ≤ k → k ≤ e → b_met (64 + k) = ed_bI (M1 k)) (hMl : ∀ k, F ≤ k → k ≤ e → b_met (64 * (C - 1) + k) = ed_bI (Ml k))
    (hp : post (h_terms, h_listed, h_kept, h_waits, h_begun, (if 0 < ep_n ty av stop M0 M1 Ml tm eq (decide (C = 2)) once N F e then 1 else 0), (nI (ep_n ty av stop M0 M1 Ml tm eq (decide (C = 2)) once N F e)), b_term, b_list, b_q, b_ev, b_g, b_keptQ, b_keptEv, b_keptG, b_waiting, b_stack, b_met, b_view, b_sorted, b_breaks)) :
    ∀ d f, f + d = e → F ≤ f → ∀ n, d < n → wY_patternOf_117 post (nI s) (nI e) h_terms h_listed h_kept h_waits h_begun h_has b_term b_list b_q b_ev b_g b_keptQ b_keptEv b_keptG b_waiting b_stack b_met b_view b_sorted b_breaks n (nI f) (nI (ep_sum (List.range' F (f - F)) (fun f => if (M0 f && decide (tm e - tm f < N)) = true then ep_vl ty av stop M1 Ml eq (decide (C = 2)) once f e else 0))) := by
  intro d
  induction d with
  | zero =>
    intro f hf hFf n hn
    obtain ⟨n, rfl⟩ : ∃ m, n = m + 1 := ⟨n - 1, by omega⟩
    obtain rfl : f = e := by omega
    have e1 : ep_sum (List.range' F (f - F)) (fun x => if (M0 x && decide (tm f - tm x < N)) = true then ep_vl ty av stop M1 Ml eq (decide (C = 2)) once x f else 0) = ep_n ty av stop M0 M1 Ml tm eq (decide (C = 2)) once N F f := ep_sum_filter.symm
    have nle := ep_n_le (ty := ty) (av := av) (stop := stop) (M0 := M0) (M1 := M1) (Ml := Ml) (tm := tm) (eq := eq) (st2 := decide (C = 2)) (once := once) (N := N) (F := F) he
    rw [e1, wY_patternOf_117]
    refine br_t (Int32.le_refl _) (pk_le (ep_n ty av stop M0 M1 Ml tm eq (decide (C = 2)) once N F f) 0 (fun c => ?_) (fun c => ?_))
    · rw [if_neg (by omega)] at hp; exact hp
    · rw [if_pos c] at hp; exact hp
  | succ d ih =>
    intro f hf hFf n hn
    obtain ⟨n, rfl⟩ : ∃ m, n = m + 1 := ⟨n - 1, by omega⟩
    have go := ih (f + 1) (by omega) (by omega) n (by omega)
    rw [ed_rg_snoc hFf, ep_sum_app, ← yp_vl_eq (show f < e by omega) hmono, ← nI_add (ep_sum _ _)] at go
    rw [wY_patternOf_117]
    refine br_f (nI_ge (by omega) (by omega)) (nm_r (nI_1 _) ⟨e - f + 1, ?_⟩)
    exact yp_132 hs he hFf (by omega) hC2 hC hN h1 h3 h4 h20 hav htm hmono hT hb hM0 hM1 hMl go (e - (f + 1)) (f + 1) (by omega) (by omega) (by rw [ed_rg_nil (Nat.le_refl _)]; rfl) (e - f + 1) (by omega)
theorem yp_56 (hs : s < 6) (he : e < 64) (hFe : F ≤ e) (h2 : b_q (100 * s + 2) = stop) (hty : ∀ k, k < e + 1 → b_ev (4 * k) = ty k)
    (K : ∀ bk, (∀ k, F ≤ k → k ≤ e + 1 → bk k = nI (yp_bc ty stop F k)) → ∃ n, wY_patternOf_117 post (nI s) (nI e) h_terms h_listed h_kept h_waits h_begun h_has b_term b_list b_q b_ev b_g b_keptQ b_keptEv b_keptG b_waiting b_stack b_met b_view b_sorted bk n (nI F) h_out) :
    ∀ (d j : Nat) (bk : Nat → Int32), j + d = e + 1 → F ≤ j → (∀ k, F ≤ k → k ≤ j → bk k = nI (yp_bc ty stop F k)) → ∀ n, d < n → wY_patternOf_56 post (nI s) (nI e) (nI F) h_terms h_listed h_kept h_waits h_begun h_has h_out n (nI j) b_term b_list b_q b_ev b_g b_keptQ b_keptEv b_keptG b_waiting b_stack b_met b_view b_sorted bk := by
  intro d
  induction d with
  | zero =>
    intro j bk hj hFj hbk n hn
    obtain ⟨n, rfl⟩ : ∃ m, n = m + 1 := ⟨n - 1, by omega⟩
    obtain rfl : j = e + 1 := by omega
    rw [wY_patternOf_56]
    exact br_t (nI_lt (by omega) (by omega)) (K bk hbk)
  | succ d ih =>
    intro j bk hj hFj hbk n hn
    obtain ⟨n, rfl⟩ : ∃ m, n = m + 1 := ⟨n - 1, by omega⟩
    have q2 : (100 : Int32) * nI s + 2 = nI (100 * s + 2) := by rw [← nI_add, ← pk_mul]; rfl
    have q4 : (4 : Int32) * nI j = nI (4 * j) := by rw [← pk_mul]; rfl
    rw [wY_patternOf_56]
    dsimp only
    rw [q2, q4, nI_1, nI_clamp (by omega), nI_clamp (by omega), nI_clamp (by omega), nI_clamp (by omega), h2, hty j (by omega), hbk j hFj (Nat.le_refl _)]
    refine br_f (nI_nlt (by omega) (by omega)) ⟨vp_in_nI (by omega) (by omega), vp_in_nI (by omega) (by omega), vp_in_nI (by omega) (by omega), br_c (fun c => ⟨vp_in_nI (by omega) (by omega), nm_e (nm_e ?_)⟩) (fun c => ⟨vp_in_nI (by omega) (by omega), nm_e (nm_e ?_)⟩)⟩
    · refine ih (j + 1) _ (by omega) (by omega) (fun k h1 h2 => ?_) n (by omega)
      by_cases g : k = j + 1
      · subst g
        rw [pk_us]
        unfold yp_bc
        rw [ed_ms_t hFj (by rw [c]; simp), List.length_append, List.length_singleton, nI_1]
      · rw [pk_un g]; exact hbk k h1 (by omega)
    · refine ih (j + 1) _ (by omega) (by omega) (fun k h1 h2 => ?_) n (by omega)
      by_cases g : k = j + 1
      · subst g
        rw [pk_us, Int32.add_zero]
        unfold yp_bc
        rw [ed_ms_f (M := fun m => ty m == stop) hFj (beq_false_of_ne c)]
      · rw [pk_un g]; exact hbk k h1 (by omega)
theorem yp_patternOf (hs : s < 6) (he : e < 64) (hFe : F ≤ e) (hC2 : 2 ≤ C) (hC : C ≤ 3) (hN : N ≤ 1000) (h1 : b_q (100 * s + 1) = nI N) (h2 : b_q (100 * s + 2) = stop) (h3 : b_q (100 * s + 3) = ed_bI eq) (h4 : b_q (100 * s + 4) = ed_bI once) (h9 : b_q (100 * s + 9) = nI F) (h20 : b_q (100 * s + 20) = nI C)
    (hty : ∀ k, k < e + 1 → b_ev (4 * k) = ty k) (hav : ∀ k, k < e + 1 → b_ev (4 * k + 1) = av k) (htm : ∀ k, k < e + 1 → b_ev (4 * k + 3) = nI (tm k)) (hmono : ∀ a b, a ≤ b → b < e + 1 → tm a ≤ tm b) (hT : tm e < 2 ^ 31)
    (hM0 : ∀ k, F ≤ k → k ≤ e → b_met k = ed_bI (M0 k)) (hM1 : ∀ k, F ≤ k → k ≤ e → b_met (64 + k) = ed_bI (M1 k)) (hMl : ∀ k, F ≤ k → k ≤ e → b_met (64 * (C - 1) + k) = ed_bI (Ml k))
    (hp : ∀ bk, post (h_terms, h_listed, h_kept, h_waits, h_begun, (if 0 < ep_n ty av stop M0 M1 Ml tm eq (decide (C = 2)) once N F e then 1 else 0), (nI (ep_n ty av stop M0 M1 Ml tm eq (decide (C = 2)) once N F e)), b_term, b_list, b_q, b_ev, b_g, b_keptQ, b_keptEv, b_keptG, b_waiting, b_stack, b_met, b_view, b_sorted, bk)) : wpY_patternOf post (h_terms, h_listed, h_kept, h_waits, h_begun, 0, 0, b_term, b_list, b_q, b_ev, b_g, b_keptQ, b_keptEv, b_keptG, b_waiting, b_stack, b_met, b_view, b_sorted, b_breaks) (nI s) (nI e) := by
  have q : ∀ c : Nat, (100 : Int32) * nI s + nI c = nI (100 * s + c) := fun c => by rw [← nI_add, ← pk_mul]; rfl
  have q9 : (100 : Int32) * nI s + 9 = nI (100 * s + 9) := q 9
  have q20 : (100 : Int32) * nI s + 20 = nI (100 * s + 20) := q 20
  have qC : nI C - 1 = nI (C - 1) := pk_sub (b := 1) (by omega)
  have qm : (64 : Int32) * nI (C - 1) + nI e = nI (64 * (C - 1) + e) := by rw [← nI_add, ← pk_mul]; rfl
  unfold wpY_patternOf
  dsimp only
  rw [q20, nI_clamp (by omega), h20]
  refine ⟨vp_in_nI (by omega) (by omega), nm_r qC ?_⟩
  rw [qm, nI_clamp (by omega), hMl e hFe (Nat.le_refl _)]
  refine ⟨vp_in_nI (by omega) (by omega), ed_bI_br (fun b => ?_) (fun b => ?_)⟩
  · have n0 : ep_n ty av stop M0 M1 Ml tm eq (decide (C = 2)) once N F e = 0 := by
      unfold ep_n
      have h := ep_sum_le (P := ed_ms (fun f => M0 f && decide (tm e - tm f < N)) F e) (g := fun f => ep_vl ty av stop M1 Ml eq (decide (C = 2)) once f e) (b := 0) (fun x hx => by
        unfold ep_vl ep_mt
        rw [b]
        split <;> exact Nat.le_refl 0)
      omega
    rw [n0] at hp
    exact hp b_breaks
  · rw [q9, nI_clamp (by omega), h9]
    refine ⟨vp_in_nI (by omega) (by omega), nm_e ⟨vp_in_nI (by omega) (by omega), nm_e ⟨e + 2 - F, ?_⟩⟩⟩
    rw [nI_clamp (by omega)]
    refine yp_56 (ty := ty) (stop := stop) hs he hFe h2 hty (fun bk hbk => ⟨e + 1 - F, ?_⟩) (e + 1 - F) F _ (by omega) (Nat.le_refl _) (fun k a c => ?_) (e + 2 - F) (by omega)
    · have := yp_117 (post := post) (ty := ty) (av := av) (stop := stop) (M0 := M0) (M1 := M1) (Ml := Ml) (tm := tm) (eq := eq) (once := once) (N := N) (F := F) (C := C) (h_terms := h_terms) (h_listed := h_listed) (h_kept := h_kept) (h_waits := h_waits) (h_begun := h_begun) (h_has := 0) (b_term := b_term) (b_list := b_list) (b_q := b_q) (b_ev := b_ev) (b_g := b_g) (b_keptQ := b_keptQ) (b_keptEv := b_keptEv) (b_keptG := b_keptG) (b_waiting := b_waiting) (b_stack := b_stack) (b_met := b_met) (b_view := b_view) (b_sorted := b_sorted) (b_breaks := bk) hs he hFe hC2 hC hN h1 h3 h4 h20 hav htm hmono hT hbk hM0 hM1 hMl (hp bk) (e - F) F (by omega) (Nat.le_refl _) (e + 1 - F) (by omega)
      rw [Nat.sub_self] at this
      exact this
    · obtain rfl : k = F := by omega
      rw [pk_us]
      unfold yp_bc
      rw [ed_ms_nil (Nat.le_refl _)]
      rfl
end
end
section
/-! the reference's joins -/
def ej_has (J : List Nat) : Int32 := if 0 < J.length then 1 else 0
section
variable {h_terms h_listed h_kept h_waits h_begun h_has h_out : Int32} {b_term b_list b_q b_ev b_g b_keptQ b_keptEv b_keptG b_waiting b_stack b_met b_view b_sorted b_breaks : Nat → Int32} {s e F nn oc : Nat} {Mo : Nat → Bool} {av bv : Nat → Int32} {post : SY → Prop}
theorem yj_55 (hs : s < 6) (he : e < 64) (hF : F ≤ e) (hn : nn ≤ 16) (hoc : oc ≤ 1) (h9 : b_q (100 * s + 9) = nI F) (hav : ∀ k, k < e + 1 → b_ev (4 * k + 1) = av k) (hbv : ∀ k, k < e + 1 → b_ev (4 * k + 2) = bv k)
    (hM : ∀ k, F ≤ k → k ≤ e → b_met (64 * oc + k) = ed_bI (Mo k))
    (hp : post (h_terms, h_listed, h_kept, h_waits, h_begun, (ej_has ((ed_la nn (ed_ms Mo F (e + 1))).filter (ej_p av e))), (ed_sm (((ed_la nn (ed_ms Mo F (e + 1))).filter (ej_p av e)).map bv)), b_term, b_list, b_q, b_ev, b_g, b_keptQ, b_keptEv, b_keptG, b_waiting, b_stack, b_met, b_view, b_sorted, b_breaks)) :
    ∀ d j, j = F + d → j ≤ e + 1 → (ed_ms Mo j (e + 1)).length ≤ nn → ∀ n, d < n →
      wY_joinOf_55 post (nI s) (nI e) (nI oc) h_terms h_listed h_kept h_waits h_begun b_term b_list b_q b_ev b_g b_keptQ b_keptEv b_keptG b_waiting b_stack b_met b_view b_sorted b_breaks n (nI (nn - (ed_ms Mo j (e + 1)).length)) (nI j + (-1)) (ej_has ((ed_ms Mo j (e + 1)).filter (ej_p av e))) (ed_sm (((ed_ms Mo j (e + 1)).filter (ej_p av e)).map bv)) := by
  have q9 : (100 : Int32) * nI s + 9 = nI (100 * s + 9) := by rw [← nI_add, ← pk_mul]; rfl
  have q64 : ∀ k, (64 : Int32) * nI oc + nI k = nI (64 * oc + k) := fun k => by rw [← nI_add, ← pk_mul]; rfl
  have fin : ∀ j, F ≤ j → j ≤ e + 1 → (j = F ∨ (ed_ms Mo j (e + 1)).length = nn) → (ed_ms Mo j (e + 1)).length ≤ nn → post (h_terms, h_listed, h_kept, h_waits, h_begun, (ej_has ((ed_ms Mo j (e + 1)).filter (ej_p av e))), (ed_sm (((ed_ms Mo j (e + 1)).filter (ej_p av e)).map bv)), b_term, b_list, b_q, b_ev, b_g, b_keptQ, b_keptEv, b_keptG, b_waiting, b_stack, b_met, b_view, b_sorted, b_breaks) := by
    intro j hj hje h hle
    have : ed_la nn (ed_ms Mo F (e + 1)) = ed_ms Mo j (e + 1) := by
      rcases h with h | h
      · subst h; exact ed_la_all hle
      · rw [ed_ms_split hj hje]
        unfold ed_la
        rw [List.length_append, h, Nat.add_sub_cancel, List.drop_left]
    rw [this] at hp
    exact hp
  intro d
  induction d with
  | zero =>
    intro j hj hje hle n hn
    obtain ⟨n, rfl⟩ : ∃ m, n = m + 1 := ⟨n - 1, by omega⟩
    obtain rfl : j = F := by omega
    rw [wY_joinOf_55]
    dsimp only
    rw [q9, nI_clamp (by omega), h9]
    exact ⟨vp_in_nI (by omega) (by omega), br_t (ed_pred_lt (by omega)) (fin j (Nat.le_refl _) hje (Or.inl rfl) hle)⟩
  | succ d ih =>
    intro j hj hje hle n hn
    obtain ⟨n, rfl⟩ : ∃ m, n = m + 1 := ⟨n - 1, by omega⟩
    obtain ⟨k, rfl⟩ : ∃ m, j = m + 1 := ⟨j - 1, by omega⟩
    rw [wY_joinOf_55]
    dsimp only
    rw [q9, nI_clamp (by omega), h9, pk_m1, q64, nI_clamp (by omega), hM k (by omega) (by omega)]
    refine ⟨vp_in_nI (by omega) (by omega), br_f (nI_nlt (by omega) (by omega)) (pk_le (nn - (ed_ms Mo (k + 1) (e + 1)).length) 0 (fun c => ?_) (fun c => ?_))⟩
    · exact fin (k + 1) (by omega) hje (Or.inr (by omega)) hle
    · refine ⟨vp_in_nI (by omega) (by omega), ed_bI_br (fun b => ?_) (fun b => ?_)⟩
      · have go := ih k (by omega) (by omega) (by rw [ed_ms_cf (by omega) b]; exact hle) n (by omega)
        rw [ed_ms_cf (by omega) b] at go
        exact nm_e go
      · have mc := ed_ms_ct (M := Mo) (a := k) (b := e + 1) (by omega) b
        have go := ih k (by omega) (by omega) (by rw [mc, List.length_cons]; omega) n (by omega)
        rw [mc, List.length_cons] at go
        have ql : nI (nn - (ed_ms Mo (k + 1) (e + 1)).length) + (-1) = nI (nn - ((ed_ms Mo (k + 1) (e + 1)).length + 1)) := by
          rw [show nn - (ed_ms Mo (k + 1) (e + 1)).length = (nn - ((ed_ms Mo (k + 1) (e + 1)).length + 1)) + 1 by omega, pk_m1]
        refine nm_r ql (pk_eq k e (fun g => ?_) (fun g => ?_))
        · have z : ej_p av e k = false := by unfold ej_p; rw [g]; simp
          rw [List.filter_cons_of_neg (by rw [z]; decide)] at go
          exact nm_e go
        · refine yw_a (by omega) (yw_a (by omega) ?_)
          rw [hav _ (by omega), hav _ (by omega)]
          refine br_c (fun a => ?_) (fun a => ?_)
          · have z : ej_p av e k = true := by unfold ej_p; rw [a, beq_false_of_ne g]; simp
            rw [List.filter_cons_of_pos z, List.map_cons] at go
            refine yw_b (by omega) ?_
            rw [hbv _ (by omega)]
            refine nm_r (e' := ed_sm (bv k :: (((ed_ms Mo (k + 1) (e + 1)).filter (ej_p av e)).map bv))) (Int32.add_comm _ _) (nm_e ?_)
            exact go
          · have z : ej_p av e k = false := by unfold ej_p; rw [beq_false_of_ne a]; simp
            rw [List.filter_cons_of_neg (by rw [z]; decide)] at go
            exact nm_e go
end
section
variable {h_terms h_listed h_kept h_waits h_begun h_has h_out : Int32} {b_term b_list b_q b_ev b_g b_keptQ b_keptEv b_keptG b_waiting b_stack b_met b_view b_sorted b_breaks : Nat → Int32} {s e F n m : Nat} {M0 M1 : Nat → Bool} {av bv : Nat → Int32} {post : SY → Prop}
theorem yj_joinOf (hs : s < 6) (he : e < 64) (hF : F ≤ e) (hn : n ≤ 16) (hm : m ≤ 16) (h1 : b_q (100 * s + 1) = nI n) (h2 : b_q (100 * s + 2) = nI m) (h9 : b_q (100 * s + 9) = nI F) (hav : ∀ k, k < e + 1 → b_ev (4 * k + 1) = av k) (hbv : ∀ k, k < e + 1 → b_ev (4 * k + 2) = bv k)
    (hM0 : ∀ k, F ≤ k → k ≤ e → b_met k = ed_bI (M0 k)) (hM1 : ∀ k, F ≤ k → k ≤ e → b_met (64 + k) = ed_bI (M1 k))
    (hp : post (h_terms, h_listed, h_kept, h_waits, h_begun, (ej_has (ej_J M0 M1 av n m F e)), (ed_sm ((ej_J M0 M1 av n m F e).map bv)), b_term, b_list, b_q, b_ev, b_g, b_keptQ, b_keptEv, b_keptG, b_waiting, b_stack, b_met, b_view, b_sorted, b_breaks)) : wpY_joinOf post (h_terms, h_listed, h_kept, h_waits, h_begun, 0, 0, b_term, b_list, b_q, b_ev, b_g, b_keptQ, b_keptEv, b_keptG, b_waiting, b_stack, b_met, b_view, b_sorted, b_breaks) (nI s) (nI e) := by
  have q1 : (100 : Int32) * nI s + 1 + 0 = nI (100 * s + 1) := by rw [Int32.add_zero, ← nI_add, ← pk_mul]; rfl
  have q2 : (100 : Int32) * nI s + 1 + 1 = nI (100 * s + 2) := by rw [show 100 * s + 2 = 100 * s + 1 + 1 from rfl, ← nI_add, ← nI_add, ← pk_mul]; rfl
  have q64 : (64 : Int32) + nI e = nI (64 + e) := nI_add 64 e
  have go : (M0 e || M1 e) = true → wY_joinOf_22 post (nI s) (nI e) h_terms h_listed h_kept h_waits h_begun 0 0 b_term b_list b_q b_ev b_g b_keptQ b_keptEv b_keptG b_waiting b_stack b_met b_view b_sorted b_breaks := by
    intro h
    unfold wY_joinOf_22
    rw [nI_clamp (by omega), hM0 e hF (Nat.le_refl _)]
    refine ⟨vp_in_nI (by omega) (by omega), ed_bI_br (fun b => ?_) (fun b => ?_)⟩
    · unfold wY_joinOf_36
      rw [q1, nI_clamp (by omega), h1]
      refine ⟨vp_in_nI (by omega) (by omega), nm_e ⟨e + 2 - F, ?_⟩⟩
      unfold ej_J at hp
      rw [h, b, if_pos rfl, if_neg (by decide)] at hp
      have := yj_55 (post := post) (oc := 0) (nn := n) (Mo := M0) (av := av) (bv := bv) (h_terms := h_terms) (h_listed := h_listed) (h_kept := h_kept) (h_waits := h_waits) (h_begun := h_begun) (b_term := b_term) (b_list := b_list) (b_q := b_q) (b_ev := b_ev) (b_g := b_g) (b_keptQ := b_keptQ) (b_keptEv := b_keptEv) (b_keptG := b_keptG) (b_waiting := b_waiting) (b_stack := b_stack) (b_met := b_met) (b_view := b_view) (b_sorted := b_sorted) (b_breaks := b_breaks) hs he hF hn (by decide) h9 hav hbv (fun k a c => by rw [Nat.mul_zero, Nat.zero_add]; exact hM0 k a c) hp (e + 1 - F) (e + 1) (by omega) (Nat.le_refl _) (by rw [ed_ms_nil (Nat.le_refl _)]; exact Nat.zero_le _) (e + 2 - F) (by omega)
      rw [ed_ms_nil (Nat.le_refl _), pk_m1] at this
      exact this
    · unfold wY_joinOf_36
      rw [q2, nI_clamp (by omega), h2]
      refine ⟨vp_in_nI (by omega) (by omega), nm_e ⟨e + 2 - F, ?_⟩⟩
      unfold ej_J at hp
      rw [h, b, if_pos rfl, if_pos rfl] at hp
      have := yj_55 (post := post) (oc := 1) (nn := m) (Mo := M1) (av := av) (bv := bv) (h_terms := h_terms) (h_listed := h_listed) (h_kept := h_kept) (h_waits := h_waits) (h_begun := h_begun) (b_term := b_term) (b_list := b_list) (b_q := b_q) (b_ev := b_ev) (b_g := b_g) (b_keptQ := b_keptQ) (b_keptEv := b_keptEv) (b_keptG := b_keptG) (b_waiting := b_waiting) (b_stack := b_stack) (b_met := b_met) (b_view := b_view) (b_sorted := b_sorted) (b_breaks := b_breaks) hs he hF hm (by decide) h9 hav hbv (fun k a c => hM1 k a c) hp (e + 1 - F) (e + 1) (by omega) (Nat.le_refl _) (by rw [ed_ms_nil (Nat.le_refl _)]; exact Nat.zero_le _) (e + 2 - F) (by omega)
      rw [ed_ms_nil (Nat.le_refl _), pk_m1] at this
      exact this
  unfold wpY_joinOf
  dsimp only
  rw [q64, nI_clamp (by omega), nI_clamp (by omega), hM0 e hF (Nat.le_refl _), hM1 e hF (Nat.le_refl _)]
  refine ⟨vp_in_nI (by omega) (by omega), ed_bI_br (fun b => ⟨vp_in_nI (by omega) (by omega), ed_bI_br (fun b2 => ?_) (fun b2 => go (by rw [b, b2]; rfl))⟩) (fun b => go (by rw [b]; rfl))⟩
  unfold ej_J at hp
  rw [b, b2] at hp
  exact hp
end
end
section
/-! the relation of one question (slot) -/
def es_tm (E : Nat → Int32) (k : Nat) : Nat := (E (4 * k + 3)).toNatClampNeg
def es_fe (E : Nat → Int32) (k : Nat) : Nat → Int32 := fun i => E (4 * k + i)
def es_ty (E : Nat → Int32) (k : Nat) : Int32 := E (4 * k)
def es_av (E : Nat → Int32) (k : Nat) : Int32 := E (4 * k + 1)
def es_bv (E : Nat → Int32) (k : Nat) : Int32 := E (4 * k + 2)
def ec_top : Option (List Int32) → Int32
  | some (v :: _) => v
  | some [] => 0
  | none => 0
/-- whether condition c of the reference's question y holds of an event -/
def es_Mc (y : Nat → Int32) (c : Nat) (fe : Nat → Int32) : Bool :=
  decide (ec_top (ec_run fe (fun i => y (24 + 25 * c + 1 + 2 * i)) (fun i => y (24 + 25 * c + 2 + 2 * i)) (y (24 + 25 * c)).toNatClampNeg) ≠ 0)
def es_M (E y : Nat → Int32) (c k : Nat) : Bool := es_Mc y c (fun i => if i < 4 then E (4 * k + i) else 0)
theorem ec_st_fe {fe fe' : Nat → Int32} {op v : Int32} {st : List Int32} (h : ∀ i, i < 4 → fe i = fe' i) : ec_st fe op v st = ec_st fe' op v st := by
  unfold ec_st
  rw [h 0 (by decide), h 1 (by decide), h 2 (by decide), h 3 (by decide)]
theorem ec_run_fe {fe fe' oc ac : Nat → Int32} (h : ∀ i, i < 4 → fe i = fe' i) : ∀ n, ec_run fe oc ac n = ec_run fe' oc ac n
  | 0 => rfl
  | n + 1 => by
    rw [ec_run, ec_run, ec_run_fe h n]
    congr 1
    funext st
    exact ec_st_fe h
theorem es_Mc_fe {y fe fe' : Nat → Int32} {c : Nat} (h : ∀ i, i < 4 → fe i = fe' i) : es_Mc y c fe = es_Mc y c fe' := by
  unfold es_Mc
  rw [ec_run_fe h]
theorem es_M_eq {E y : Nat → Int32} {c k : Nat} {fe : Nat → Int32} (h : ∀ i, i < 4 → E (4 * k + i) = fe i) : es_M E y c k = es_Mc y c fe :=
  es_Mc_fe (fun i hi => by rw [if_pos hi]; exact h i hi)
theorem es_M_E {E E' y : Nat → Int32} {c k : Nat} (h : ∀ i, i < 4 → E (4 * k + i) = E' (4 * k + i)) : es_M E y c k = es_M E' y c k :=
  es_Mc_fe (fun i hi => by rw [if_pos hi, if_pos hi]; exact h i hi)
theorem es_Mc_y {y y' : Nat → Int32} (h : ∀ j, 24 ≤ j → y' j = y j) : es_Mc y' = es_Mc y := by
  funext c fe
  unfold es_Mc
  have e1 : (fun i => y' (24 + 25 * c + 1 + 2 * i)) = (fun i => y (24 + 25 * c + 1 + 2 * i)) := funext fun i => h _ (by omega)
  have e2 : (fun i => y' (24 + 25 * c + 2 + 2 * i)) = (fun i => y (24 + 25 * c + 2 + 2 * i)) := funext fun i => h _ (by omega)
  rw [e1, e2, h _ (by omega)]
theorem es_M_y {E y y' : Nat → Int32} (h : ∀ j, 24 ≤ j → y' j = y j) : es_M E y' = es_M E y := by
  funext c k
  unfold es_M
  rw [es_Mc_y h]
/-- the reference's conditions are whole -/
def yc_ok (y : Nat → Int32) (C : Nat) : Prop :=
  ∀ c, c < C → ∃ m, y (24 + 25 * c) = nI m ∧ m ≤ 12 ∧ (∀ i, i < m → ∃ o, o ≤ 13 ∧ y (24 + 25 * c + 1 + 2 * i) = nI o) ∧ ∀ fe, ∃ v, ec_run fe (fun i => y (24 + 25 * c + 1 + 2 * i)) (fun i => y (24 + 25 * c + 2 + 2 * i)) m = some [v]
theorem yc_ok_y {y y' : Nat → Int32} {C : Nat} (h : ∀ j, 24 ≤ j → y' j = y j) (ok : yc_ok y C) : yc_ok y' C := by
  intro c hc
  obtain ⟨m, a, b, d, f⟩ := ok c hc
  refine ⟨m, (h _ (by omega)).trans a, b, fun i hi => ?_, fun fe => ?_⟩
  · obtain ⟨o, o1, o2⟩ := d i hi
    exact ⟨o, o1, (h _ (by omega)).trans o2⟩
  · obtain ⟨v, hv⟩ := f fe
    refine ⟨v, ?_⟩
    rw [← hv]
    exact ec_run_congr (fun i _ => ⟨h _ (by omega), h _ (by omega)⟩)
def es_win (E : Nat → Int32) (C F H T : Nat) (qs ls y : Nat → Int32) : Prop :=
  qs 0 = 1 ∧ C = 1 ∧ ∃ view how, qs 1 = nI view ∧ y 1 = nI view ∧ view ≤ 5 ∧ qs 2 = y 2 ∧ (view = 1 ∨ view = 3 → y 2 = nI (y 2).toNatClampNeg ∧ 1 ≤ (y 2).toNatClampNeg ∧ (y 2).toNatClampNeg ≤ 16) ∧ (view = 2 ∨ view = 5 → y 2 = nI (y 2).toNatClampNeg ∧ 1 ≤ (y 2).toNatClampNeg ∧ (y 2).toNatClampNeg ≤ 100)
    ∧ qs 4 = nI how ∧ y 3 = nI how ∧ how ≤ 5 ∧ qs 5 = y 4 ∧ ew_inv (es_M E y 0) (es_tm E) (es_av E) (es_bv E) (y 4) view (y 2).toNatClampNeg F H T qs ls
def es_pat (E : Nat → Int32) (C F H T : Nat) (qs ls y : Nat → Int32) : Prop :=
  qs 0 = 2 ∧ 2 ≤ C ∧ ∃ N eq once, qs 2 = nI N ∧ y 1 = nI N ∧ 1 ≤ N ∧ N ≤ 1000 ∧ qs 6 = y 2 ∧ qs 5 = ed_bI eq ∧ y 3 = ed_bI eq ∧ qs 19 = ed_bI once ∧ y 4 = ed_bI once
    ∧ xp_inv (es_ty E) (es_av E) (y 2) (es_M E y 0) (es_M E y 1) (es_M E y (C - 1)) (es_tm E) eq (decide (C = 2)) once N F H T qs ls
def es_joi (E : Nat → Int32) (C F H : Nat) (qs ls y : Nat → Int32) : Prop :=
  qs 0 = 3 ∧ C = 2 ∧ ∃ n m, qs 2 = nI n ∧ y 1 = nI n ∧ 1 ≤ n ∧ n ≤ 16 ∧ qs 3 = nI m ∧ y 2 = nI m ∧ 1 ≤ m ∧ m ≤ 16 ∧ xj_inv (es_M E y 0) (es_M E y 1) n m F H qs ls
def es_body (E cd ar : Nat → Int32) (s H T : Nat) (qs ls y : Nat → Int32) : Prop :=
  ∃ C F, qs 15 = nI C ∧ y 20 = nI C ∧ C ≤ 3 ∧ y 9 = nI F ∧ F ≤ H ∧ xc_ok cd ar qs s C (es_Mc y) ∧ yc_ok y C ∧ (es_win E C F H T qs ls y ∨ es_pat E C F H T qs ls y ∨ es_joi E C F H qs ls y)
def es_cnt (H : Nat) (qs y : Nat → Int32) : Prop :=
  ∃ K G, qs 10 = nI K ∧ y 10 = nI K ∧ K ≤ H ∧ qs 11 = nI G ∧ y 11 = nI G ∧ G ≤ K ∧ ∀ j, j < 8 → j < G → qs (28 + j) = y (12 + j)
def es_giv (qs y : Nat → Int32) : Prop := qs 7 = y 6 ∧ (∃ r, 1 ≤ r ∧ r ≤ 8 ∧ qs 8 = nI r ∧ y 7 = nI r) ∧ (∃ ro, ro ≤ 4 ∧ qs 9 = nI ro ∧ y 8 = nI ro)
def es_slot (E cd ar : Nat → Int32) (s H T : Nat) (qs ls y : Nat → Int32) : Prop :=
  qs 0 = y 0 ∧ (qs 0 = 0 ∨ (es_giv qs y ∧ es_cnt H qs y ∧ es_body E cd ar s H T qs ls y))
/-! other events behind H don't matter -/
theorem ep_nb_congr {ty ty' : Nat → Int32} {stop : Int32} {i j : Nat} (h : ∀ k, k < j → ty k = ty' k) : ep_nb ty stop i j = ep_nb ty' stop i j := by
  unfold ep_nb
  rw [Bool.eq_iff_iff, List.all_eq_true, List.all_eq_true]
  constructor
  · intro z m hm; have := z m hm; rw [h m (ed_rg_mem.mp hm).2] at this; exact this
  · intro z m hm; have := z m hm; rw [← h m (ed_rg_mem.mp hm).2] at this; exact this
theorem ep_fo_congr {ty ty' av av' : Nat → Int32} {stop : Int32} {eq : Bool} {i j : Nat} (hij : i ≤ j) (h : ∀ k, k < j → ty k = ty' k) (g : ∀ k, k ≤ j → av k = av' k) : ep_fo ty av stop eq i j = ep_fo ty' av' stop eq i j := by
  unfold ep_fo
  rw [ep_nb_congr h, g i hij, g j (Nat.le_refl j)]
theorem ep_rw_congr {ty ty' av av' : Nat → Int32} {stop : Int32} {M1 M1' : Nat → Bool} {eq : Bool} {f j : Nat} (h : ∀ k, k < j → ty k = ty' k) (g : ∀ k, k < j → av k = av' k) (m : ∀ k, k < j → M1 k = M1' k) : ep_rw ty av stop M1 eq f j = ep_rw ty' av' stop M1' eq f j := by
  unfold ep_rw ed_ms
  congr 1
  refine List.filter_congr (fun k hk => ?_)
  have hk := ed_rg_mem.mp hk
  rw [m k hk.2, ep_fo_congr (by omega) (fun i hi => h i (by omega)) (fun i hi => g i (by omega)), ep_nb_congr h]
theorem ep_mt_congr {ty ty' av av' : Nat → Int32} {stop : Int32} {M1 M1' Ml Ml' : Nat → Bool} {eq st2 : Bool} {f j : Nat} (hf : f ≤ j) (h : ∀ k, k < j → ty k = ty' k) (g : ∀ k, k ≤ j → av k = av' k) (m : ∀ k, k < j → M1 k = M1' k) (ml : Ml j = Ml' j) :
    ep_mt ty av stop M1 Ml eq st2 f j = ep_mt ty' av' stop M1' Ml' eq st2 f j := by
  unfold ep_mt
  rw [ml, ep_fo_congr hf h g]
  have z : ed_ms (fun m => M1 m && ep_fo ty av stop eq f m && ep_fo ty av stop eq m j) (f + 1) j = ed_ms (fun m => M1' m && ep_fo ty' av' stop eq f m && ep_fo ty' av' stop eq m j) (f + 1) j := by
    refine List.filter_congr (fun k hk => ?_)
    have hk := ed_rg_mem.mp hk
    rw [m k hk.2, ep_fo_congr (by omega) (fun i hi => h i (by omega)) (fun i hi => g i (by omega)), ep_fo_congr (by omega) h g]
  rw [z]
theorem ep_gn_congr {ty ty' av av' : Nat → Int32} {stop : Int32} {M1 M1' Ml Ml' : Nat → Bool} {eq st2 once : Bool} {f j : Nat} (h : ∀ k, k < j → ty k = ty' k) (g : ∀ k, k < j → av k = av' k) (m : ∀ k, k < j → M1 k = M1' k) (ml : ∀ k, k < j → Ml k = Ml' k) :
    ep_gn ty av stop M1 Ml eq st2 once f j = ep_gn ty' av' stop M1' Ml' eq st2 once f j := by
  unfold ep_gn
  congr 1
  rw [Bool.eq_iff_iff, List.any_eq_true, List.any_eq_true]
  have e1 : ∀ k, k ∈ List.range' (f + 1) (j - (f + 1)) → ep_mt ty av stop M1 Ml eq st2 f k = ep_mt ty' av' stop M1' Ml' eq st2 f k := by
    intro k hk
    have hk := ed_rg_mem.mp hk
    exact ep_mt_congr (by omega) (fun i hi => h i (by omega)) (fun i hi => g i (by omega)) (fun i hi => m i (by omega)) (ml k hk.2)
  constructor
  · rintro ⟨k, hk, z⟩; rw [e1 k hk] at z; exact ⟨k, hk, z⟩
  · rintro ⟨k, hk, z⟩; rw [← e1 k hk] at z; exact ⟨k, hk, z⟩
theorem xp_inv_congr {ty ty' av av' : Nat → Int32} {stop : Int32} {M0 M0' M1 M1' Ml Ml' : Nat → Bool} {tm tm' : Nat → Nat} {eq st2 once : Bool} {N F H T : Nat} {qs ls : Nat → Int32} (h : ∀ k, k < H → ty k = ty' k) (g : ∀ k, k < H → av k = av' k)
    (m0 : ∀ k, k < H → M0 k = M0' k) (m1 : ∀ k, k < H → M1 k = M1' k) (ml : ∀ k, k < H → Ml k = Ml' k) (t : ∀ k, k < H → tm k = tm' k) (I : xp_inv ty av stop M0 M1 Ml tm eq st2 once N F H T qs ls) : xp_inv ty' av' stop M0' M1' Ml' tm' eq st2 once N F H T qs ls := by
  obtain ⟨P, T0, hT, hP, R⟩ := I
  refine ⟨P, T0, hT, hP.trans (ed_ms_congr (fun k hk => by rw [m0 k hk, t k hk])), R.1, R.2.1, fun i hi => ?_⟩
  obtain ⟨a, b, c⟩ := R.2.2 i hi
  refine ⟨a, b.trans ?_, c.trans ?_⟩
  · unfold ep_op
    dsimp only
    rw [ep_gn_congr h g m1 ml, ep_nb_congr h]
  · unfold ep_ro
    dsimp only
    rw [ep_gn_congr h g m1 ml, ep_rw_congr h g m1]
theorem ew_bf_congr {fl : Int32} {av av' bv bv' : Nat → Int32} {a b : Nat} (ha : av a = av' a) (hb : av b = av' b) (ha' : bv a = bv' a) (hb' : bv b = bv' b) : ew_bf fl av bv a b = ew_bf fl av' bv' a b := by
  unfold ew_bf ew_gp
  rw [ha, hb, ha', hb']
theorem ew_inv_congr {M M' : Nat → Bool} {tm tm' : Nat → Nat} {av av' bv bv' : Nat → Int32} {fl : Int32} {view N F H T : Nat} {qs ls : Nat → Int32} (hv : view ≤ 5) (hM : ∀ k, k < H → M k = M' k) (ht : ∀ k, k < H → tm k = tm' k) (ha : ∀ k, k < H → av k = av' k) (hb : ∀ k, k < H → bv k = bv' k)
    (I : ew_inv M tm av bv fl view N F H T qs ls) : ew_inv M' tm' av' bv' fl view N F H T qs ls := by
  obtain ⟨S, L, hd, R, hs, wi⟩ := I
  refine ⟨S, L, hd, R, ?_, ed_wi_congr hM ht ha wi⟩
  have hm : ∀ k ∈ S, k < H := fun k hk => (ed_ms_mem.mp ((ed_wi_sub hv wi).subset (R.2.2.2.2.2.1.subset hk))).1.2
  refine List.Pairwise.imp_of_mem (fun {a b} h1 h2 h => ?_) hs
  rw [← ew_bf_congr (ha a (hm a h1)) (ha b (hm b h2)) (hb a (hm a h1)) (hb b (hm b h2))]
  exact h
theorem xj_inv_congr {M0 M0' M1 M1' : Nat → Bool} {n m F H : Nat} {qs ls : Nat → Int32} (h0 : ∀ k, k < H → M0 k = M0' k) (h1 : ∀ k, k < H → M1 k = M1' k) (I : xj_inv M0 M1 n m F H qs ls) : xj_inv M0' M1' n m F H qs ls := by
  unfold xj_inv at I ⊢
  rw [← ed_ms_congr h0, ← ed_ms_congr h1]
  exact I
theorem es_body_E {E E' cd ar : Nat → Int32} {s H T : Nat} {qs ls y : Nat → Int32} (h : ∀ j, j < 4 * H → E j = E' j) (B : es_body E cd ar s H T qs ls y) : es_body E' cd ar s H T qs ls y := by
  obtain ⟨C, F, a1, a2, a3, a4, a5, a6, a7, b⟩ := B
  have hM : ∀ c k, k < H → es_M E y c k = es_M E' y c k := fun c k hk => es_M_E (fun i hi => h _ (by omega))
  have ht : ∀ k, k < H → es_tm E k = es_tm E' k := fun k hk => congrArg Int32.toNatClampNeg (h _ (by omega))
  have ha : ∀ k, k < H → es_av E k = es_av E' k := fun k hk => h _ (by omega)
  have hb : ∀ k, k < H → es_bv E k = es_bv E' k := fun k hk => h _ (by omega)
  have hy : ∀ k, k < H → es_ty E k = es_ty E' k := fun k hk => h _ (by omega)
  refine ⟨C, F, a1, a2, a3, a4, a5, a6, a7, ?_⟩
  rcases b with b | b | b
  · obtain ⟨b1, b2, view, how, c1, c2, c3, c4, c5, c6, c7, c8, c9, c10, I⟩ := b
    exact Or.inl ⟨b1, b2, view, how, c1, c2, c3, c4, c5, c6, c7, c8, c9, c10, ew_inv_congr c3 (hM 0) ht ha hb I⟩
  · obtain ⟨b1, b2, N, eq, once, c1, c2, c3, c4, c5, c6, c7, c8, c9, I⟩ := b
    exact Or.inr (Or.inl ⟨b1, b2, N, eq, once, c1, c2, c3, c4, c5, c6, c7, c8, c9, xp_inv_congr hy ha (hM 0) (hM 1) (hM (C - 1)) ht I⟩)
  · obtain ⟨b1, b2, n, m, c1, c2, c3, c4, c5, c6, c7, c8, I⟩ := b
    exact Or.inr (Or.inr ⟨b1, b2, n, m, c1, c2, c3, c4, c5, c6, c7, c8, xj_inv_congr (hM 0) (hM 1) I⟩)
theorem ew_rep_q {qs qs' ls : Nat → Int32} {S L : List Nat} {hd : Nat} (h12 : qs' 12 = qs 12) (h13 : qs' 13 = qs 13) (h14 : qs' 14 = qs 14) (R : ew_rep qs ls S L hd) : ew_rep qs' ls S L hd :=
  ⟨h12.trans R.1, h13.trans R.2.1, h14.trans R.2.2.1, R.2.2.2⟩
theorem es_body_c {E cd ar : Nat → Int32} {s H T : Nat} {qs qs' ls y y' : Nat → Int32} (hq : ∀ j, (j < 7 ∨ (12 ≤ j ∧ j < 28) ∨ 36 ≤ j) → qs' j = qs j) (hy : ∀ j, (j < 6 ∨ j = 9 ∨ 20 ≤ j) → y' j = y j) (B : es_body E cd ar s H T qs ls y) : es_body E cd ar s H T qs' ls y' := by
  obtain ⟨C, F, a1, a2, a3, a4, a5, a6, a7, b⟩ := B
  have hy24 : ∀ j, 24 ≤ j → y' j = y j := fun j hj => hy j (by omega)
  have y1 := hy 1 (by decide)
  have y2 := hy 2 (by decide)
  have y3 := hy 3 (by decide)
  have y4 := hy 4 (by decide)
  refine ⟨C, F, (hq 15 (by decide)).trans a1, (hy 20 (by decide)).trans a2, a3, (hy 9 (by decide)).trans a4, a5, ?_, yc_ok_y hy24 a7, ?_⟩
  · rw [es_Mc_y hy24]
    exact xc_ok_same a3 a6 (fun j h1 h2 => hq j (by omega))
  · unfold es_win es_pat es_joi at b ⊢
    rw [es_M_y hy24, hq 0 (by decide), hq 1 (by decide), hq 2 (by decide), hq 3 (by decide), hq 4 (by decide), hq 5 (by decide), hq 6 (by decide), hq 19 (by decide), y1, y2, y3, y4]
    rcases b with b | b | b
    · obtain ⟨b1, b2, view, how, c1, c2, c3, c4, c5, c6, c7, c8, c9, c10, S, L, hd, R, I⟩ := b
      exact Or.inl ⟨b1, b2, view, how, c1, c2, c3, c4, c5, c6, c7, c8, c9, c10, S, L, hd, ew_rep_q (hq 12 (by decide)) (hq 13 (by decide)) (hq 14 (by decide)) R, I⟩
    · obtain ⟨b1, b2, N, eq, once, c1, c2, c3, c4, c5, c6, c7, c8, c9, P, T0, h1, h2, R⟩ := b
      exact Or.inr (Or.inl ⟨b1, b2, N, eq, once, c1, c2, c3, c4, c5, c6, c7, c8, c9, P, T0, h1, h2, (hq 12 (by decide)).trans R.1, R.2⟩)
    · obtain ⟨b1, b2, n, m, c1, c2, c3, c4, c5, c6, c7, c8, ⟨k1, I1⟩, k2, I2⟩ := b
      exact Or.inr (Or.inr ⟨b1, b2, n, m, c1, c2, c3, c4, c5, c6, c7, c8, ⟨k1, xj_rep_same I1 (hq 36 (by decide)) (hq 37 (by decide)) (fun _ _ _ => rfl)⟩, k2, xj_rep_same I2 (hq 38 (by decide)) (hq 39 (by decide)) (fun _ _ _ => rfl)⟩)
theorem es_body_T {E cd ar : Nat → Int32} {s H T T' : Nat} {qs ls y : Nat → Int32} (h : T ≤ T') (B : es_body E cd ar s H T qs ls y) : es_body E cd ar s H T' qs ls y := by
  obtain ⟨C, F, a1, a2, a3, a4, a5, a6, a7, b⟩ := B
  refine ⟨C, F, a1, a2, a3, a4, a5, a6, a7, ?_⟩
  rcases b with b | b | b
  · obtain ⟨b1, b2, view, how, c1, c2, c3, c4, c5, c6, c7, c8, c9, c10, S, L, hd, R, I1, I2⟩ := b
    exact Or.inl ⟨b1, b2, view, how, c1, c2, c3, c4, c5, c6, c7, c8, c9, c10, S, L, hd, R, I1, ed_wi_T h I2⟩
  · obtain ⟨b1, b2, N, eq, once, c1, c2, c3, c4, c5, c6, c7, c8, c9, P, T0, h1, h2⟩ := b
    exact Or.inr (Or.inl ⟨b1, b2, N, eq, once, c1, c2, c3, c4, c5, c6, c7, c8, c9, P, T0, by omega, h2⟩)
  · exact Or.inr (Or.inr b)
end
section
/-! what a question answers to an event; the component's see -/
def es_ow (E y : Nat → Int32) (view N how F e : Nat) : Option Int32 :=
  if es_M E y 0 e = true then (if view = 3 ∧ (ed_ms (es_M E y 0) F (e + 1)).length % N ≠ 0 then none
    else some (ed_tot how (ed_srt (((ed_vl (es_M E y 0) (es_tm E) (es_av E) view N F e).filter (fun k => ew_gp (y 4) (es_av E) k == ew_gp (y 4) (es_av E) e)).map (es_bv E))))) else none
def es_np (E y : Nat → Int32) (C N : Nat) (eq once : Bool) (F e : Nat) : Nat := ep_n (es_ty E) (es_av E) (y 2) (es_M E y 0) (es_M E y 1) (es_M E y (C - 1)) (es_tm E) eq (decide (C = 2)) once N F e
def es_op (E y : Nat → Int32) (C N : Nat) (eq once : Bool) (F e : Nat) : Option Int32 := if 0 < es_np E y C N eq once F e then some (nI (es_np E y C N eq once F e)) else none
def es_oj (E y : Nat → Int32) (n m F e : Nat) : Option Int32 := if 0 < (ej_J (es_M E y 0) (es_M E y 1) (es_av E) n m F e).length then some (ed_sm ((ej_J (es_M E y 0) (es_M E y 1) (es_av E) n m F e).map (es_bv E))) else none
def es_out (E y : Nat → Int32) (e : Nat) : Option Int32 :=
  if y 0 = 1 then es_ow E y (y 1).toNatClampNeg (y 2).toNatClampNeg (y 3).toNatClampNeg (y 9).toNatClampNeg e
  else if y 0 = 2 then es_op E y (y 20).toNatClampNeg (y 1).toNatClampNeg (decide (y 3 = 1)) (decide (y 4 = 1)) (y 9).toNatClampNeg e
  else es_oj E y (y 1).toNatClampNeg (y 2).toNatClampNeg (y 9).toNatClampNeg e
theorem ed_bI_dec (b : Bool) : decide (ed_bI b = 1) = b := by cases b <;> rfl
theorem es_out_w {E y : Nat → Int32} {view how F e : Nat} (h0 : y 0 = 1) (h1 : y 1 = nI view) (hv : view < 2 ^ 31) (h3 : y 3 = nI how) (hh : how < 2 ^ 31) (h9 : y 9 = nI F) (hF : F < 2 ^ 31) : es_out E y e = es_ow E y view (y 2).toNatClampNeg how F e := by
  unfold es_out
  rw [if_pos h0, h1, h3, h9, nI_clamp hv, nI_clamp hh, nI_clamp hF]
theorem es_out_p {E y : Nat → Int32} {C N F e : Nat} {eq once : Bool} (h0 : y 0 = 2) (h20 : y 20 = nI C) (hC : C < 2 ^ 31) (h1 : y 1 = nI N) (hN : N < 2 ^ 31) (h3 : y 3 = ed_bI eq) (h4 : y 4 = ed_bI once) (h9 : y 9 = nI F) (hF : F < 2 ^ 31) : es_out E y e = es_op E y C N eq once F e := by
  unfold es_out
  rw [if_neg (by rw [h0]; decide), if_pos h0, h20, h1, h3, h4, h9, nI_clamp hC, nI_clamp hN, nI_clamp hF, ed_bI_dec, ed_bI_dec]
theorem es_out_j {E y : Nat → Int32} {n m F e : Nat} (h0 : y 0 = 3) (h1 : y 1 = nI n) (hn : n < 2 ^ 31) (h2 : y 2 = nI m) (hm : m < 2 ^ 31) (h9 : y 9 = nI F) (hF : F < 2 ^ 31) : es_out E y e = es_oj E y n m F e := by
  unfold es_out
  rw [if_neg (by rw [h0]; decide), if_neg (by rw [h0]; decide), h1, h2, h9, nI_clamp hn, nI_clamp hm, nI_clamp hF]
def es_fr (qs qs' : Nat → Int32) : Prop := ∀ j, j ≠ 12 → j ≠ 13 → j ≠ 14 → (j < 36 ∨ 40 ≤ j) → qs' j = qs j
/-- times of the events below H: not negative, in order, none beyond T -/
def es_tms (E : Nat → Int32) (H T : Nat) : Prop := (∀ k, k < H → E (4 * k + 3) = nI (es_tm E k) ∧ es_tm E k ≤ T) ∧ ∀ a b, a ≤ b → b < H → es_tm E a ≤ es_tm E b
section
variable {f_terms f_conditions f_happened f_waiting f_lost f_time f_all f_oldHappened f_oldLost f_oldTime f_oldAll f_kept : Int32} {a_termOp a_termValue a_askedCode a_code a_oldCode a_askedArg a_arg a_oldArg a_askedLength a_stack a_question a_oldQuestion a_list a_oldList a_event a_oldEvent : Nat → Int32} {qs ls y E : Nat → Int32} {s e T : Nat} {post : SX → Prop}
theorem xs_see0 (hs : s < 6) (h0 : a_question (64 * s) = 0) (hp : post (f_terms, f_conditions, f_happened, f_waiting, f_lost, f_time, f_all, f_oldHappened, f_oldLost, f_oldTime, f_oldAll, f_kept, a_termOp, a_termValue, a_askedCode, a_code, a_oldCode, a_askedArg, a_arg, a_oldArg, a_askedLength, a_stack, a_question, a_oldQuestion, a_list, a_oldList, a_event, a_oldEvent)) : wpX_see post (f_terms, f_conditions, f_happened, f_waiting, f_lost, f_time, f_all, f_oldHappened, f_oldLost, f_oldTime, f_oldAll, f_kept, a_termOp, a_termValue, a_askedCode, a_code, a_oldCode, a_askedArg, a_arg, a_oldArg, a_askedLength, a_stack, a_question, a_oldQuestion, a_list, a_oldList, a_event, a_oldEvent) (nI s) (nI e) := by
  have q : (64 : Int32) * nI s + 0 = nI (64 * s) := by rw [Int32.add_zero, ← pk_mul]; rfl
  unfold wpX_see
  dsimp only
  rw [q, nI_clamp (by omega), h0]
  exact ⟨vp_in_nI (by omega) (by omega), nm_e (br_t (by decide) hp)⟩
theorem xs_see (hs : s < 6) (he : e < 64) (hE : ∀ j, j < 4 * (e + 1) → a_event j = E j) (ht : es_tms E (e + 1) T) (hte : es_tm E e = T) (hT : T < 2 ^ 31) (hft : f_time = nI T) (h0 : qs 0 = y 0) (B : es_body E a_code a_arg s e T qs ls y)
    (hp0 : es_out E y e = none → ∀ stk qs' ls', es_body E a_code a_arg s (e + 1) T qs' ls' y → es_fr qs qs' → post (f_terms, f_conditions, f_happened, f_waiting, f_lost, f_time, f_all, f_oldHappened, f_oldLost, f_oldTime, f_oldAll, f_kept, a_termOp, a_termValue, a_askedCode, a_code, a_oldCode, a_askedArg, a_arg, a_oldArg, a_askedLength, stk, (ed_sp a_question (64 * s) 64 qs'), a_oldQuestion, (ed_sp a_list (256 * s) 256 ls'), a_oldList, a_event, a_oldEvent))
    (hp1 : ∀ v, es_out E y e = some v → ∀ stk qs' ls', es_body E a_code a_arg s (e + 1) T qs' ls' y → es_fr qs qs' → wpX_put post (f_terms, f_conditions, f_happened, f_waiting, f_lost, f_time, f_all, f_oldHappened, f_oldLost, f_oldTime, f_oldAll, f_kept, a_termOp, a_termValue, a_askedCode, a_code, a_oldCode, a_askedArg, a_arg, a_oldArg, a_askedLength, stk, (ed_sp a_question (64 * s) 64 qs'), a_oldQuestion, (ed_sp a_list (256 * s) 256 ls'), a_oldList, a_event, a_oldEvent) (nI s) v) : wpX_see post (f_terms, f_conditions, f_happened, f_waiting, f_lost, f_time, f_all, f_oldHappened, f_oldLost, f_oldTime, f_oldAll, f_kept, a_termOp, a_termValue, a_askedCode, a_code, a_oldCode, a_askedArg, a_arg, a_oldArg, a_askedLength, a_stack, (ed_sp a_question (64 * s) 64 qs), a_oldQuestion, (ed_sp a_list (256 * s) 256 ls), a_oldList, a_event, a_oldEvent) (nI s) (nI e) := by
  obtain ⟨C, F, a1, a2, a3, a4, a5, a6, a7, b⟩ := B
  have q : (64 : Int32) * nI s + 0 = nI (64 * s) := by rw [Int32.add_zero, ← pk_mul]; rfl
  have hav : ∀ k, k < e + 1 → a_event (4 * k + 1) = es_av E k := fun k hk => hE _ (by omega)
  have hbv : ∀ k, k < e + 1 → a_event (4 * k + 2) = es_bv E k := fun k hk => hE _ (by omega)
  have htm : ∀ k, k < e + 1 → a_event (4 * k + 3) = nI (es_tm E k) := fun k hk => (hE _ (by omega)).trans (ht.1 k hk).1
  have hty : a_event (4 * e) = es_ty E e := hE _ (by omega)
  have hfe : ∀ i, i < 4 → a_event (4 * e + i) = es_fe E e i := fun i hi => hE _ (by omega)
  have hMe : ∀ c, es_M E y c e = es_Mc y c (es_fe E e) := fun c => es_M_eq (fun i _ => rfl)
  unfold wpX_see
  dsimp only
  rw [q, nI_clamp (by omega), ed_sp_get0 (by omega)]
  refine ⟨vp_in_nI (by omega) (by omega), ?_⟩
  rcases b with b | b | b
  · obtain ⟨b1, b2, view, how, c1, c2, c3, c4, c5, c6, c7, c8, c9, c10, I⟩ := b
    have eo := es_out_w (E := E) (e := e) (h0.symm.trans b1) c2 (by omega) c8 (by omega) a4 (by omega)
    rw [eo] at hp0 hp1
    rw [b1]
    refine nm_e (br_f (by decide) (br_f (by decide) (br_t rfl ?_)))
    refine xs_meets (c := 0) hs (by omega) a3 a6 he hfe (fun stk => ?_)
    rw [← hMe]
    have mk : ∀ qs' ls', es_fr qs qs' → ew_inv (es_M E y 0) (es_tm E) (es_av E) (es_bv E) (y 4) view (y 2).toNatClampNeg F (e + 1) T qs' ls' → es_body E a_code a_arg s (e + 1) T qs' ls' y := by
      intro qs' ls' fr I'
      have g : ∀ j, j < 12 ∨ (15 ≤ j ∧ j < 36) → qs' j = qs j := fun j hj => fr j (by omega) (by omega) (by omega) (by omega)
      exact ⟨C, F, (g 15 (by decide)).trans a1, a2, a3, a4, by omega, xc_ok_same a3 a6 (fun j h1 h2 => g j (by omega)), a7, Or.inl ⟨(g 0 (by decide)).trans b1, b2, view, how, (g 1 (by decide)).trans c1, c2, c3, (g 2 (by decide)).trans c4, c5, c6, (g 4 (by decide)).trans c7, c8, c9, (g 5 (by decide)).trans c10, I'⟩⟩
    have fr2 : ∀ {qs'}, ew_same qs qs' → es_fr qs qs' := fun h j x y z _ => h j x y z
    unfold es_ow at hp0 hp1
    refine ed_bI_br (fun m => ?_) (fun m => ?_)
    · rw [m] at hp0
      refine hp0 rfl stk qs ls (mk qs ls (fun _ _ _ _ _ => rfl) ?_) (fun _ _ _ _ _ => rfl)
      obtain ⟨S, L, hd, R, hsr, wi⟩ := I
      exact ⟨S, L, hd, R, hsr, ed_wi_f a5 m wi⟩
    · rw [m, if_pos rfl] at hp0 hp1
      refine xw_member hs he a5 m hav hbv htm ht.2 hte hT hft c1 c4 c10 c7 c9 c3 c5 c6 I (fun qs' ls' z I' sm => ?_) (fun qs' ls' z I' sm => ?_)
      · rw [if_pos z] at hp0
        exact hp0 rfl stk qs' ls' (mk qs' ls' (fr2 sm) I') (fr2 sm)
      · rw [if_neg z] at hp1
        exact hp1 _ rfl stk qs' ls' (mk qs' ls' (fr2 sm) I') (fr2 sm)
  · obtain ⟨b1, b2, N, eq, once, c1, c2, c3, c4, c5, c6, c7, c8, c9, I⟩ := b
    have eo := es_out_p (E := E) (e := e) (h0.symm.trans b1) a2 (by omega) c2 (by omega) c7 c9 a4 (by omega)
    rw [eo] at hp0 hp1
    rw [b1]
    refine nm_e (br_f (by decide) (br_f (by decide) (br_f (by decide) (br_t rfl ?_))))
    have mk : ∀ qs' ls', (∀ j, j ≠ 12 → qs' j = qs j) → xp_inv (es_ty E) (es_av E) (y 2) (es_M E y 0) (es_M E y 1) (es_M E y (C - 1)) (es_tm E) eq (decide (C = 2)) once N F (e + 1) T qs' ls' → es_body E a_code a_arg s (e + 1) T qs' ls' y := by
      intro qs' ls' fr I'
      have g : ∀ j, j < 12 ∨ 15 ≤ j → qs' j = qs j := fun j hj => fr j (by omega)
      exact ⟨C, F, (g 15 (by decide)).trans a1, a2, a3, a4, by omega, xc_ok_same a3 a6 (fun j h1 h2 => g j (by omega)), a7, Or.inr (Or.inl ⟨(g 0 (by decide)).trans b1, b2, N, eq, once, (g 2 (by decide)).trans c1, c2, c3, c4, (g 6 (by decide)).trans c5, (g 5 (by decide)).trans c6, c7, (g 19 (by decide)).trans c8, c9, I'⟩)⟩
    unfold es_op es_np at hp0 hp1
    refine xp_follow hs he a5 b2 a3 a6 hfe hav htm hty ht.2 hte hT hft c1 c3 c4 c6 c5 a1 c8 (hMe 0) (hMe 1) (hMe (C - 1)) I (fun z stk qs' ls' I' sm => ?_) (fun z stk qs' ls' I' sm => ?_)
    · rw [if_neg (by omega)] at hp0
      exact hp0 rfl stk qs' ls' (mk qs' ls' sm I') (fun j x _ _ _ => sm j x)
    · rw [if_pos z] at hp1
      exact hp1 _ rfl stk qs' ls' (mk qs' ls' sm I') (fun j x _ _ _ => sm j x)
  · obtain ⟨b1, b2, n, m, c1, c2, c3, c4, c5, c6, c7, c8, I⟩ := b
    have eo := es_out_j (E := E) (e := e) (h0.symm.trans b1) c2 (by omega) c6 (by omega) a4 (by omega)
    rw [eo] at hp0 hp1
    rw [b1]
    refine nm_e (br_f (by decide) (br_f (by decide) (br_f (by decide) (br_f (by decide) (br_t rfl ?_)))))
    have mk : ∀ qs' ls', (∀ j, j < 36 ∨ 40 ≤ j → qs' j = qs j) → xj_inv (es_M E y 0) (es_M E y 1) n m F (e + 1) qs' ls' → es_body E a_code a_arg s (e + 1) T qs' ls' y := by
      intro qs' ls' g I'
      exact ⟨C, F, (g 15 (by decide)).trans a1, a2, a3, a4, by omega, xc_ok_same a3 a6 (fun j h1 h2 => g j (by omega)), a7, Or.inr (Or.inr ⟨(g 0 (by decide)).trans b1, b2, n, m, (g 2 (by decide)).trans c1, c2, c3, c4, (g 3 (by decide)).trans c5, c6, c7, c8, I'⟩)⟩
    unfold es_oj at hp0 hp1
    refine xj_pair hs he a5 b2 a6 hfe hav hbv c1 c5 c3 c4 c7 c8 (hMe 0) (hMe 1) I (fun z stk qs' ls' I' sm => ?_) (fun z stk qs' ls' I' sm => ?_)
    · rw [if_neg (by omega)] at hp0
      exact hp0 rfl stk qs' ls' (mk qs' ls' sm I') (fun j _ _ _ x => sm j x)
    · rw [if_pos z] at hp1
      exact hp1 _ rfl stk qs' ls' (mk qs' ls' sm I') (fun j _ _ _ x => sm j x)
end
end
section
/-! the reference's ask, up to what it gives -/
section
variable {h_terms h_listed h_kept h_waits h_begun h_has h_out : Int32} {b_term b_list b_q b_ev b_g b_keptQ b_keptEv b_keptG b_waiting b_stack b_met b_view b_sorted b_breaks : Nat → Int32} {y fe : Nat → Int32} {s c k C : Nat}
theorem ys_meets {post : Int32 → SY → Prop} (hs : s < 6) (hc : c < C) (hC : C ≤ 3) (ok : yc_ok y C) (hy : ∀ j, j < 100 → b_q (100 * s + j) = y j) (hk : k < 64) (hfe : ∀ i, i < 4 → b_ev (4 * k + i) = fe i) (hp : ∀ stk, post (ed_bI (es_Mc y c fe)) (h_terms, h_listed, h_kept, h_waits, h_begun, h_has, h_out, b_term, b_list, b_q, b_ev, b_g, b_keptQ, b_keptEv, b_keptG, b_waiting, stk, b_met, b_view, b_sorted, b_breaks)) : wpY_meets post (h_terms, h_listed, h_kept, h_waits, h_begun, h_has, h_out, b_term, b_list, b_q, b_ev, b_g, b_keptQ, b_keptEv, b_keptG, b_waiting, b_stack, b_met, b_view, b_sorted, b_breaks) (nI s) (nI c) (nI k) := by
  obtain ⟨m, a, b, d, f⟩ := ok c hc
  obtain ⟨v, g⟩ := f fe
  have hv : (if v = 0 then 0 else 1 : Int32) = ed_bI (es_Mc y c fe) := by
    unfold es_Mc
    rw [a, nI_clamp (by omega), g]
    by_cases z : v = 0
    · rw [if_pos z, decide_eq_false (fun q => q z)]; rfl
    · rw [if_neg z, decide_eq_true (show ec_top (some [v]) ≠ 0 from z)]; rfl
  refine ym_meets (fe := fe) (N := m) (v := v) hs (by omega) hk b ?_ hfe (fun i hi => ?_) ?_ (fun stk => ?_)
  · rw [Nat.add_assoc, hy _ (by omega), a]
  · obtain ⟨o, o1, o2⟩ := d i hi
    refine ⟨o, o1, ?_⟩
    rw [show 100 * s + 24 + 25 * c + 1 + 2 * i = 100 * s + (24 + 25 * c + 1 + 2 * i) by omega, hy _ (by omega), o2]
  · rw [← g]
    refine ec_run_congr (fun i hi => ⟨?_, ?_⟩)
    · rw [show 100 * s + 24 + 25 * c + 1 + 2 * i = 100 * s + (24 + 25 * c + 1 + 2 * i) by omega, hy _ (by omega)]
    · rw [show 100 * s + 24 + 25 * c + 2 + 2 * i = 100 * s + (24 + 25 * c + 2 + 2 * i) by omega, hy _ (by omega)]
  · rw [hv]; exact hp stk
end
section
variable {h_terms h_listed h_kept h_waits h_begun h_has h_out : Int32} {b_term b_list b_q b_ev b_g b_keptQ b_keptEv b_keptG b_waiting b_stack b_met b_view b_sorted b_breaks : Nat → Int32} {y E : Nat → Int32} {s e c C F : Nat} {post : SY → Prop} {J : Int32 → Int32 → Int32 → Int32 → Int32 → Int32 → Int32 → Int32 → (Nat → Int32) → (Nat → Int32) → (Nat → Int32) → (Nat → Int32) → (Nat → Int32) → (Nat → Int32) → (Nat → Int32) → (Nat → Int32) → (Nat → Int32) → (Nat → Int32) → (Nat → Int32) → (Nat → Int32) → (Nat → Int32) → (Nat → Int32) → Prop}
def ys_met (E y : Nat → Int32) (F e c : Nat) (met : Nat → Int32) : Prop := ∀ c' k, c' < c → F ≤ k → k ≤ e → met (64 * c' + k) = ed_bI (es_M E y c' k)
theorem ys_42 (hs : s < 6) (he : e < 64) (hc : c < C) (hC : C ≤ 3) (ok : yc_ok y C) (hy : ∀ j, j < 100 → b_q (100 * s + j) = y j) (hE : ∀ j, j < 4 * (e + 1) → b_ev j = E j)
    (K : ∀ met stk, ys_met E y F e (c + 1) met → J (nI (c + 1)) h_terms h_listed h_kept h_waits h_begun h_has h_out b_term b_list b_q b_ev b_g b_keptQ b_keptEv b_keptG b_waiting stk met b_view b_sorted b_breaks) :
    ∀ (d k : Nat) (met stk : Nat → Int32), k + d = e + 1 → F ≤ k → ys_met E y F e c met → (∀ j, F ≤ j → j < k → met (64 * c + j) = ed_bI (es_M E y c j)) → ∀ n, d < n → wY_ask_42 post J (nI s) (nI e) (nI c) n (nI k) h_terms h_listed h_kept h_waits h_begun h_has h_out b_term b_list b_q b_ev b_g b_keptQ b_keptEv b_keptG b_waiting stk met b_view b_sorted b_breaks := by
  intro d
  induction d with
  | zero =>
    intro k met stk hk hFk h1 h2 n hn
    obtain ⟨n, rfl⟩ : ∃ m, n = m + 1 := ⟨n - 1, by omega⟩
    obtain rfl : k = e + 1 := by omega
    rw [wY_ask_42]
    refine br_t (nI_lt (by omega) (by omega)) (nm_r (nI_1 _) (K met stk (fun c' j a b d => ?_)))
    by_cases g : c' = c
    · subst g; exact h2 j b (by omega)
    · exact h1 c' j (by omega) b d
  | succ d ih =>
    intro k met stk hk hFk h1 h2 n hn
    obtain ⟨n, rfl⟩ : ∃ m, n = m + 1 := ⟨n - 1, by omega⟩
    have q : (64 : Int32) * nI c + nI k = nI (64 * c + k) := by rw [← nI_add, ← pk_mul]; rfl
    rw [wY_ask_42]
    refine br_f (nI_nlt (by omega) (by omega)) ?_
    refine ys_meets (fe := es_fe E k) hs hc hC ok hy (by omega) (fun i hi => hE _ (by omega)) (fun stk' => ?_)
    dsimp only
    rw [q, nI_clamp (by omega), ed_nar_b, ← es_M_eq (E := E) (y := y) (c := c) (k := k) (fe := es_fe E k) (fun i _ => rfl)]
    refine ⟨vp_in_nI (by omega) (by omega), nm_e (nm_r (nI_1 _) (ih (k + 1) _ stk' (by omega) (by omega) (fun c' j a b d => ?_) (fun j a b => ?_) n (by omega)))⟩
    · rw [pk_un (by omega)]; exact h1 c' j a b d
    · by_cases g : j = k
      · subst g; rw [pk_us]
      · rw [pk_un (by omega)]; exact h2 j a (by omega)
theorem ys_12 (hs : s < 6) (he : e < 64) (hFe : F ≤ e) (hC : C ≤ 3) (ok : yc_ok y C) (hy : ∀ j, j < 100 → b_q (100 * s + j) = y j) (h20 : y 20 = nI C) (h9 : y 9 = nI F) (hE : ∀ j, j < 4 * (e + 1) → b_ev j = E j)
    (K : ∀ met stk, ys_met E y F e C met → vp_in (100 * nI s) 600 ∧ ((y 0 = 1 → wpY_windowOf (fun u => match u with | (h_terms, h_listed, h_kept, h_waits, h_begun, h_has, h_out, b_term, b_list, b_q, b_ev, b_g, b_keptQ, b_keptEv, b_keptG, b_waiting, b_stack, b_met, b_view, b_sorted, b_breaks) => wY_ask_99 post (nI s) (nI e) h_terms h_listed h_kept h_waits h_begun h_has h_out b_term b_list b_q b_ev b_g b_keptQ b_keptEv b_keptG b_waiting b_stack b_met b_view b_sorted b_breaks) (h_terms, h_listed, h_kept, h_waits, h_begun, h_has, h_out, b_term, b_list, b_q, b_ev, b_g, b_keptQ, b_keptEv, b_keptG, b_waiting, stk, met, b_view, b_sorted, b_breaks) (nI s) (nI e)) ∧ (¬ y 0 = 1 → wY_ask_99 post (nI s) (nI e) h_terms h_listed h_kept h_waits h_begun h_has h_out b_term b_list b_q b_ev b_g b_keptQ b_keptEv b_keptG b_waiting stk met b_view b_sorted b_breaks))) :
    ∀ (d c : Nat) (met stk : Nat → Int32), c + d = C → ys_met E y F e c met → ∀ n, d < n → wY_ask_12 post (nI s) (nI e) n (nI c) h_terms h_listed h_kept h_waits h_begun h_has h_out b_term b_list b_q b_ev b_g b_keptQ b_keptEv b_keptG b_waiting stk met b_view b_sorted b_breaks := by
  have q20 : (100 : Int32) * nI s + 20 = nI (100 * s + 20) := by rw [← nI_add, ← pk_mul]; rfl
  have q9 : (100 : Int32) * nI s + 9 = nI (100 * s + 9) := by rw [← nI_add, ← pk_mul]; rfl
  have q0 : (100 : Int32) * nI s = nI (100 * s) := by rw [← pk_mul]; rfl
  have e0 : b_q (100 * s) = y 0 := hy 0 (by decide)
  intro d
  induction d with
  | zero =>
    intro c met stk hc h1 n hn
    obtain ⟨n, rfl⟩ : ∃ m, n = m + 1 := ⟨n - 1, by omega⟩
    obtain rfl : c = C := by omega
    have K := K met stk h1
    rw [wY_ask_12]
    dsimp only
    rw [q20, nI_clamp (by omega), hy 20 (by decide), h20]
    refine ⟨vp_in_nI (by omega) (by omega), br_t (Int32.le_refl _) ?_⟩
    rw [q0, nI_clamp (by omega), e0]
    rw [q0] at K
    exact K
  | succ d ih =>
    intro c met stk hc h1 n hn
    obtain ⟨n, rfl⟩ : ∃ m, n = m + 1 := ⟨n - 1, by omega⟩
    rw [wY_ask_12]
    dsimp only
    rw [q20, nI_clamp (by omega), hy 20 (by decide), h20, q9, nI_clamp (by omega), hy 9 (by decide), h9]
    refine ⟨vp_in_nI (by omega) (by omega), br_f (nI_ge (by omega) (by omega)) ⟨vp_in_nI (by omega) (by omega), nm_e ⟨e + 2 - F, ?_⟩⟩⟩
    exact ys_42 hs he (by omega) hC ok hy hE (fun met' stk' h' => ih (c + 1) met' stk' (by omega) h' n (by omega)) (e + 1 - F) F met stk (by omega) (Nat.le_refl _) h1 (fun j a b => by omega) (e + 2 - F) (by omega)
end
section
variable {h_terms h_listed h_kept h_waits h_begun h_has h_out : Int32} {b_term b_list b_q b_ev b_g b_keptQ b_keptEv b_keptG b_waiting b_stack b_met b_view b_sorted b_breaks : Nat → Int32} {y E cd ar qs ls : Nat → Int32} {s e T : Nat} {post : SY → Prop}
theorem ys_99 (hs : s < 6) (hy : b_q (100 * s) = y 0) (n2 : ¬ y 0 = 2) (n3 : ¬ y 0 = 3) (h : wY_ask_137 post (nI s) h_terms h_listed h_kept h_waits h_begun h_has h_out b_term b_list b_q b_ev b_g b_keptQ b_keptEv b_keptG b_waiting b_stack b_met b_view b_sorted b_breaks) : wY_ask_99 post (nI s) (nI e) h_terms h_listed h_kept h_waits h_begun h_has h_out b_term b_list b_q b_ev b_g b_keptQ b_keptEv b_keptG b_waiting b_stack b_met b_view b_sorted b_breaks := by
  have q0 : (100 : Int32) * nI s = nI (100 * s) := by rw [← pk_mul]; rfl
  unfold wY_ask_99 wY_ask_118
  rw [q0, nI_clamp (by omega), hy]
  exact ⟨vp_in_nI (by omega) (by omega), br_f n2 ⟨vp_in_nI (by omega) (by omega), br_f n3 h⟩⟩
theorem ys_ask (hs : s < 6) (he : e < 64) (hE : ∀ j, j < 4 * (e + 1) → b_ev j = E j) (ht : es_tms E (e + 1) T) (hte : es_tm E e = T) (hT : T < 2 ^ 31) (h0 : qs 0 = y 0) (hy : ∀ j, j < 100 → b_q (100 * s + j) = y j) (B : es_body E cd ar s e T qs ls y)
    (hp : ∀ has out met vw srt bk stk, (es_out E y e = none → has = 0) → (∀ v, es_out E y e = some v → has = 1 ∧ out = v) → wY_ask_137 post (nI s) h_terms h_listed h_kept h_waits h_begun has out b_term b_list b_q b_ev b_g b_keptQ b_keptEv b_keptG b_waiting stk met vw srt bk) : wpY_ask post (h_terms, h_listed, h_kept, h_waits, h_begun, h_has, h_out, b_term, b_list, b_q, b_ev, b_g, b_keptQ, b_keptEv, b_keptG, b_waiting, b_stack, b_met, b_view, b_sorted, b_breaks) (nI s) (nI e) := by
  obtain ⟨C, F, a1, a2, a3, a4, a5, a6, a7, b⟩ := B
  have q0 : (100 : Int32) * nI s = nI (100 * s) := by rw [← pk_mul]; rfl
  have e0 : b_q (100 * s) = y 0 := hy 0 (by decide)
  have hav : ∀ k, k < e + 1 → b_ev (4 * k + 1) = es_av E k := fun k hk => hE _ (by omega)
  have hbv : ∀ k, k < e + 1 → b_ev (4 * k + 2) = es_bv E k := fun k hk => hE _ (by omega)
  have htm : ∀ k, k < e + 1 → b_ev (4 * k + 3) = nI (es_tm E k) := fun k hk => (hE _ (by omega)).trans (ht.1 k hk).1
  have hty : ∀ k, k < e + 1 → b_ev (4 * k) = es_ty E k := fun k hk => hE _ (by omega)
  unfold wpY_ask
  refine ⟨C + 1, ?_⟩
  refine ys_12 hs he a5 a3 a7 hy a2 a4 hE (fun met stk hm => ?_) C 0 b_met b_stack (by omega) (fun c' k a => by omega) (C + 1) (by omega)
  rw [q0]
  refine ⟨vp_in_nI (by omega) (by omega), ?_⟩
  rcases b with b | b | b
  · obtain ⟨b1, b2, view, how, c1, c2, c3, c4, c5, c6, c7, c8, c9, c10, I⟩ := b
    have y0 : y 0 = 1 := h0.symm.trans b1
    have eo := es_out_w (E := E) (e := e) y0 c2 (by omega) c8 (by omega) a4 (by omega)
    rw [eo] at hp
    have n2 : ¬ y 0 = 2 := by rw [y0]; decide
    have n3 : ¬ y 0 = 3 := by rw [y0]; decide
    have hM : ∀ j, F ≤ j → j ≤ e → met j = ed_bI (es_M E y 0 j) := fun j u v => by
      have := hm 0 j (by omega) u v
      rw [Nat.mul_zero, Nat.zero_add] at this
      exact this
    refine br_t y0 (yv_windowOf (tm := es_tm E) (av := es_av E) (bv := es_bv E) (N := (y 2).toNatClampNeg) (fl := y 4) hs he c3 a5 hav hbv htm ht.2 (by omega) hM ((hy 1 (by decide)).trans c2) (hy 2 (by decide)) ((hy 3 (by decide)).trans c8) c9 (hy 4 (by decide)) ((hy 9 (by decide)).trans a4) c5 c6 (fun m => ?_) (fun m z vk => ?_) (fun m z vk srt => ?_))
    · refine ys_99 hs e0 n2 n3 (hp _ _ _ _ _ _ _ (fun _ => rfl) (fun v hv => ?_))
      unfold es_ow at hv
      rw [m] at hv
      cases hv
    · refine ys_99 hs e0 n2 n3 (hp _ _ _ _ _ _ _ (fun _ => rfl) (fun v hv => ?_))
      unfold es_ow at hv
      rw [m, if_pos rfl, if_pos z] at hv
      cases hv
    · refine ys_99 hs e0 n2 n3 (hp _ _ _ _ _ _ _ (fun hv => ?_) (fun v hv => ?_))
      · unfold es_ow at hv
        rw [m, if_pos rfl, if_neg z] at hv
        cases hv
      · unfold es_ow at hv
        rw [m, if_pos rfl, if_neg z] at hv
        exact ⟨rfl, Option.some.inj hv⟩
  · obtain ⟨b1, b2, N, eq, once, c1, c2, c3, c4, c5, c6, c7, c8, c9, I⟩ := b
    have y0 : y 0 = 2 := h0.symm.trans b1
    have eo := es_out_p (E := E) (e := e) y0 a2 (by omega) c2 (by omega) c7 c9 a4 (by omega)
    rw [eo] at hp
    have n1 : ¬ y 0 = 1 := by rw [y0]; decide
    have n3 : ¬ y 0 = 3 := by rw [y0]; decide
    refine br_f n1 ?_
    unfold wY_ask_99
    rw [q0, nI_clamp (by omega), e0]
    refine ⟨vp_in_nI (by omega) (by omega), br_t y0 ?_⟩
    refine yp_patternOf (ty := es_ty E) (av := es_av E) (tm := es_tm E) (M0 := es_M E y 0) (M1 := es_M E y 1) (Ml := es_M E y (C - 1)) hs he a5 b2 a3 c4 ((hy 1 (by decide)).trans c2) (hy 2 (by decide)) ((hy 3 (by decide)).trans c7) ((hy 4 (by decide)).trans c9) ((hy 9 (by decide)).trans a4) ((hy 20 (by decide)).trans a2) hty hav htm ht.2 (by omega)
      (fun j u v => ?_) (fun j u v => hm 1 j (by omega) u v) (fun j u v => hm (C - 1) j (by omega) u v) (fun bk => ?_)
    · have := hm 0 j (by omega) u v
      rw [Nat.mul_zero, Nat.zero_add] at this
      exact this
    · unfold wY_ask_118
      dsimp only
      rw [q0, nI_clamp (by omega), e0]
      refine ⟨vp_in_nI (by omega) (by omega), br_f n3 (hp _ _ _ _ _ _ _ (fun hv => ?_) (fun v hv => ?_))⟩
      · unfold es_op es_np at hv
        by_cases z : 0 < ep_n (es_ty E) (es_av E) (y 2) (es_M E y 0) (es_M E y 1) (es_M E y (C - 1)) (es_tm E) eq (decide (C = 2)) once N F e
        · rw [if_pos z] at hv; cases hv
        · rw [if_neg z]
      · unfold es_op es_np at hv
        by_cases z : 0 < ep_n (es_ty E) (es_av E) (y 2) (es_M E y 0) (es_M E y 1) (es_M E y (C - 1)) (es_tm E) eq (decide (C = 2)) once N F e
        · rw [if_pos z] at hv; exact ⟨if_pos z, Option.some.inj hv⟩
        · rw [if_neg z] at hv; cases hv
  · obtain ⟨b1, b2, n, m, c1, c2, c3, c4, c5, c6, c7, c8, I⟩ := b
    have y0 : y 0 = 3 := h0.symm.trans b1
    have eo := es_out_j (E := E) (e := e) y0 c2 (by omega) c6 (by omega) a4 (by omega)
    rw [eo] at hp
    have n1 : ¬ y 0 = 1 := by rw [y0]; decide
    have n2 : ¬ y 0 = 2 := by rw [y0]; decide
    refine br_f n1 ?_
    unfold wY_ask_99 wY_ask_118
    rw [q0, nI_clamp (by omega), e0]
    refine ⟨vp_in_nI (by omega) (by omega), br_f n2 ⟨vp_in_nI (by omega) (by omega), br_t y0 ?_⟩⟩
    refine yj_joinOf (av := es_av E) (bv := es_bv E) (M0 := es_M E y 0) (M1 := es_M E y 1) hs he a5 c4 c8 ((hy 1 (by decide)).trans c2) ((hy 2 (by decide)).trans c6) ((hy 9 (by decide)).trans a4) hav hbv (fun j u v => ?_) (fun j u v => hm 1 j (by omega) u v) ?_
    · have := hm 0 j (by omega) u v
      rw [Nat.mul_zero, Nat.zero_add] at this
      exact this
    · refine hp _ _ _ _ _ _ _ (fun hv => ?_) (fun v hv => ?_)
      · unfold es_oj at hv
        by_cases z : 0 < (ej_J (es_M E y 0) (es_M E y 1) (es_av E) n m F e).length
        · rw [if_pos z] at hv; cases hv
        · exact if_neg z
      · unfold es_oj at hv
        by_cases z : 0 < (ej_J (es_M E y 0) (es_M E y 1) (es_av E) n m F e).length
        · rw [if_pos z] at hv; exact ⟨if_pos z, Option.some.inj hv⟩
        · rw [if_neg z] at hv; cases hv
end
end
section
/-! put and give -/
section
variable {f_terms f_conditions f_happened f_waiting f_lost f_time f_all f_oldHappened f_oldLost f_oldTime f_oldAll f_kept : Int32} {a_termOp a_termValue a_askedCode a_code a_oldCode a_askedArg a_arg a_oldArg a_askedLength a_stack a_question a_oldQuestion a_list a_oldList a_event a_oldEvent : Nat → Int32} {qs ls : Nat → Int32} {s H w K G r ro : Nat} {p0 p1 p2 v : Int32} {post : SX → Prop}
theorem xs_append (hw : H + w < 64) (hp : post (f_terms, f_conditions, (nI H), (nI (w + 1)), f_lost, f_time, f_all, f_oldHappened, f_oldLost, f_oldTime, f_oldAll, f_kept, a_termOp, a_termValue, a_askedCode, a_code, a_oldCode, a_askedArg, a_arg, a_oldArg, a_askedLength, a_stack, a_question, a_oldQuestion, a_list, a_oldList, (upd (upd (upd a_event (4 * (H + w)) p0) (4 * (H + w) + 1) p1) (4 * (H + w) + 2) p2), a_oldEvent)) : wpX_append post (f_terms, f_conditions, (nI H), (nI w), f_lost, f_time, f_all, f_oldHappened, f_oldLost, f_oldTime, f_oldAll, f_kept, a_termOp, a_termValue, a_askedCode, a_code, a_oldCode, a_askedArg, a_arg, a_oldArg, a_askedLength, a_stack, a_question, a_oldQuestion, a_list, a_oldList, a_event, a_oldEvent) p0 p1 p2 := by
  unfold wpX_append
  simp (disch := omega) only [ed_lit, nI_add, pk_mul, pk_sub, Nat.add_assoc, Nat.add_zero, Nat.zero_add, Nat.reduceAdd, Nat.reduceSub, Nat.reduceMul, Nat.add_sub_cancel, ed_asub, ed_in, nI_clamp, true_and, and_true, forall_eq, forall_const, true_implies, false_implies, not_true_eq_false, not_false_eq_true, and_self]
  exact hp
theorem xs_put (hs : s < 6) (hw : H + w ≤ 64) (h10 : qs 10 = nI K) (hK : K ≤ 64) (h11 : qs 11 = nI G) (hG : G ≤ K) (h8 : qs 8 = nI r) (hr1 : 1 ≤ r) (hr2 : r ≤ 8) (h9 : qs 9 = nI ro) (hro : ro ≤ 4)
    (hA : ¬ qs 7 < v → post (f_terms, f_conditions, (nI H), (nI w), f_lost, f_time, f_all, f_oldHappened, f_oldLost, f_oldTime, f_oldAll, f_kept, a_termOp, a_termValue, a_askedCode, a_code, a_oldCode, a_askedArg, a_arg, a_oldArg, a_askedLength, a_stack, (ed_sp a_question (64 * s) 64 qs), a_oldQuestion, a_list, a_oldList, a_event, a_oldEvent))
    (hB : qs 7 < v → (K + 1) % r ≠ 0 → post (f_terms, f_conditions, (nI H), (nI w), f_lost, f_time, f_all, f_oldHappened, f_oldLost, f_oldTime, f_oldAll, f_kept, a_termOp, a_termValue, a_askedCode, a_code, a_oldCode, a_askedArg, a_arg, a_oldArg, a_askedLength, a_stack, (ed_sp a_question (64 * s) 64 (upd qs 10 (nI (K + 1)))), a_oldQuestion, a_list, a_oldList, a_event, a_oldEvent))
    (hC : qs 7 < v → (K + 1) % r = 0 → ro = 4 → post (f_terms, f_conditions, (nI H), (nI w), f_lost, f_time, (f_all + 1), f_oldHappened, f_oldLost, f_oldTime, f_oldAll, f_kept, a_termOp, a_termValue, a_askedCode, a_code, a_oldCode, a_askedArg, a_arg, a_oldArg, a_askedLength, a_stack, (ed_sp a_question (64 * s) 64 (upd (upd (upd qs 10 (nI (K + 1))) (28 + G % 8) v) 11 (nI (G + 1)))), a_oldQuestion, a_list, a_oldList, a_event, a_oldEvent))
    (hD : qs 7 < v → (K + 1) % r = 0 → ro ≠ 4 → H + w = 64 → post (f_terms, f_conditions, (nI H), (nI w), (f_lost + 1), f_time, (f_all + 1), f_oldHappened, f_oldLost, f_oldTime, f_oldAll, f_kept, a_termOp, a_termValue, a_askedCode, a_code, a_oldCode, a_askedArg, a_arg, a_oldArg, a_askedLength, a_stack, (ed_sp a_question (64 * s) 64 (upd (upd (upd qs 10 (nI (K + 1))) (28 + G % 8) v) 11 (nI (G + 1)))), a_oldQuestion, a_list, a_oldList, a_event, a_oldEvent))
    (hE : qs 7 < v → (K + 1) % r = 0 → ro ≠ 4 → H + w < 64 → post (f_terms, f_conditions, (nI H), (nI (w + 1)), f_lost, f_time, (f_all + 1), f_oldHappened, f_oldLost, f_oldTime, f_oldAll, f_kept, a_termOp, a_termValue, a_askedCode, a_code, a_oldCode, a_askedArg, a_arg, a_oldArg, a_askedLength, a_stack, (ed_sp a_question (64 * s) 64 (upd (upd (upd qs 10 (nI (K + 1))) (28 + G % 8) v) 11 (nI (G + 1)))), a_oldQuestion, a_list, a_oldList, (upd (upd (upd a_event (4 * (H + w)) (nI ro)) (4 * (H + w) + 1) (nI s)) (4 * (H + w) + 2) v), a_oldEvent)) :
    wpX_put post (f_terms, f_conditions, (nI H), (nI w), f_lost, f_time, f_all, f_oldHappened, f_oldLost, f_oldTime, f_oldAll, f_kept, a_termOp, a_termValue, a_askedCode, a_code, a_oldCode, a_askedArg, a_arg, a_oldArg, a_askedLength, a_stack, (ed_sp a_question (64 * s) 64 qs), a_oldQuestion, a_list, a_oldList, a_event, a_oldEvent) (nI s) v := by
  have q0 : (64 : Int32) * nI s = nI (64 * s) := by rw [← pk_mul]; rfl
  have hm := Nat.mod_lt (K + 1) (show r > 0 by omega)
  unfold wpX_put
  refine nm_r q0 ?_
  rw [show ed_sp a_question (64 * s) 64 qs (nI (64 * s) + 7).toNatClampNeg = qs 7 from ed_qr hs (k := 7) (by decide)]
  refine ⟨pk_in (64 * s + 7) _ (by omega) (nI_add _ 7), br_c (fun c1 => ?_) (fun c1 => hA c1)⟩
  simp (disch := omega) only [ed_lit, nI_add, pk_mul, pk_sub, Nat.add_assoc, Nat.add_zero, Nat.zero_add, Nat.reduceAdd, Nat.reduceSub, Nat.reduceMul, Nat.add_sub_cancel, ed_asub, ed_in, nI_clamp, true_and, and_true, ed_sp_get, ed_sp_get0, ed_sp_upd, ed_sp_upd0, forall_eq, forall_const, true_implies, false_implies, not_true_eq_false, not_false_eq_true, and_self, pk_us, pk_un, h10, h8, h9, h11, pk_rem, ed_and7, ed_ne]
  refine pk_eq ((K + 1) % r) 0 (fun c2 => ?_) (fun c2 => hB c1 c2)
  refine pk_eq ro 4 (fun c3 => hC c1 c2 c3) (fun c3 => ?_)
  refine pk_eq (H + w) 64 (fun c4 => hD c1 c2 c3 c4) (fun c4 => ?_)
  exact xs_append (by omega) (hE c1 c2 c3 (by omega))
end
section
variable {h_terms h_listed h_kept h_waits h_begun h_has h_out : Int32} {b_term b_list b_q b_ev b_g b_keptQ b_keptEv b_keptG b_waiting b_stack b_met b_view b_sorted b_breaks : Nat → Int32} {y : Nat → Int32} {s H w bg K G r ro : Nat} {v : Int32} {post : SY → Prop}
theorem ys_137 (hs : s < 6) (hw : H + w ≤ 64) (hbg : bg < H) (hg0 : b_g 0 = nI H) (h10 : y 10 = nI K) (hK : K ≤ 64) (h11 : y 11 = nI G) (hG : G ≤ K) (h7 : y 7 = nI r) (hr1 : 1 ≤ r) (hr2 : r ≤ 8) (h8 : y 8 = nI ro) (hro : ro ≤ 4)
    (hA : ¬ y 6 < v → post (h_terms, h_listed, h_kept, (nI (bg + w)), (nI bg), 1, v, b_term, b_list, (ed_sp b_q (100 * s) 100 y), b_ev, b_g, b_keptQ, b_keptEv, b_keptG, b_waiting, b_stack, b_met, b_view, b_sorted, b_breaks))
    (hB : y 6 < v → (K + 1) % r ≠ 0 → post (h_terms, h_listed, h_kept, (nI (bg + w)), (nI bg), 1, v, b_term, b_list, (ed_sp b_q (100 * s) 100 (upd y 10 (nI (K + 1)))), b_ev, b_g, b_keptQ, b_keptEv, b_keptG, b_waiting, b_stack, b_met, b_view, b_sorted, b_breaks))
    (hC : y 6 < v → (K + 1) % r = 0 → ro = 4 → post (h_terms, h_listed, h_kept, (nI (bg + w)), (nI bg), 1, v, b_term, b_list, (ed_sp b_q (100 * s) 100 (upd (upd (upd y 10 (nI (K + 1))) (12 + G % 8) v) 11 (nI (G + 1)))), b_ev, (upd b_g 3 (b_g 3 + 1)), b_keptQ, b_keptEv, b_keptG, b_waiting, b_stack, b_met, b_view, b_sorted, b_breaks))
    (hD : y 6 < v → (K + 1) % r = 0 → ro ≠ 4 → H + w = 64 → post (h_terms, h_listed, h_kept, (nI (bg + w)), (nI bg), 1, v, b_term, b_list, (ed_sp b_q (100 * s) 100 (upd (upd (upd y 10 (nI (K + 1))) (12 + G % 8) v) 11 (nI (G + 1)))), b_ev, (upd (upd b_g 3 (b_g 3 + 1)) 1 (b_g 1 + 1)), b_keptQ, b_keptEv, b_keptG, b_waiting, b_stack, b_met, b_view, b_sorted, b_breaks))
    (hE : y 6 < v → (K + 1) % r = 0 → ro ≠ 4 → H + w < 64 → post (h_terms, h_listed, h_kept, (nI (bg + w + 1)), (nI bg), 1, v, b_term, b_list, (ed_sp b_q (100 * s) 100 (upd (upd (upd y 10 (nI (K + 1))) (12 + G % 8) v) 11 (nI (G + 1)))), b_ev, (upd b_g 3 (b_g 3 + 1)), b_keptQ, b_keptEv, b_keptG, (upd (upd (upd b_waiting (3 * (bg + w)) (nI ro)) (3 * (bg + w) + 1) (nI s)) (3 * (bg + w) + 2) v), b_stack, b_met, b_view, b_sorted, b_breaks)) :
    wY_ask_137 post (nI s) h_terms h_listed h_kept (nI (bg + w)) (nI bg) 1 v b_term b_list (ed_sp b_q (100 * s) 100 y) b_ev b_g b_keptQ b_keptEv b_keptG b_waiting b_stack b_met b_view b_sorted b_breaks := by
  have hm := Nat.mod_lt (K + 1) (show r > 0 by omega)
  have e6 : ed_sp b_q (100 * s) 100 y (100 * nI s + 6).toNatClampNeg = y 6 := by
    rw [show (100 : Int32) * nI s + 6 = nI (100 * s + 6) by rw [← nI_add, ← pk_mul]; rfl, nI_clamp (by omega), ed_sp_get (by omega)]
  unfold wY_ask_137
  refine br_f (by decide) ?_
  rw [e6]
  refine ⟨pk_in (100 * s + 6) _ (by omega) (by rw [← nI_add, ← pk_mul]; rfl), br_c (fun c1 => ?_) (fun c1 => hA c1)⟩
  simp (disch := omega) only [ed_lit, nI_add, pk_mul, pk_sub, Nat.add_assoc, Nat.add_zero, Nat.zero_add, Nat.reduceAdd, Nat.reduceSub, Nat.reduceMul, Nat.add_sub_cancel, ed_asub, ed_in, nI_clamp, true_and, and_true, ed_sp_get, ed_sp_get0, ed_sp_upd, ed_sp_upd0, forall_eq, forall_const, true_implies, false_implies, not_true_eq_false, not_false_eq_true, and_self, pk_us, pk_un, h10, h7, pk_rem, ed_ne]
  refine pk_eq ((K + 1) % r) 0 (fun c2 => ?_) (fun c2 => hB c1 c2)
  unfold wpY_give
  have sb : nI (H + (bg + w)) - nI bg = nI (H + w) := by rw [pk_sub (by omega)]; exact congrArg nI (by omega)
  simp (disch := omega) only [ed_lit, nI_add, pk_mul, pk_sub, Nat.add_assoc, Nat.add_zero, Nat.zero_add, Nat.reduceAdd, Nat.reduceSub, Nat.reduceMul, Nat.add_sub_cancel, ed_asub, ed_in, nI_clamp, true_and, and_true, ed_sp_get, ed_sp_get0, ed_sp_upd, ed_sp_upd0, forall_eq, forall_const, true_implies, false_implies, not_true_eq_false, not_false_eq_true, and_self, pk_us, pk_un, h11, h8, ed_and7, hg0, sb]
  refine pk_eq ro 4 (fun c3 => hC c1 c2 c3) (fun c3 => ?_)
  refine pk_lt (H + w) 64 (fun c4 => ?_) (fun c4 => hD c1 c2 c3 (by omega))
  have := hE c1 c2 c3 c4
  simp only [Nat.add_assoc] at this
  exact this
end
end
section
/-! one question at one event: component and reference in step -/
def es_mid (E : Nat → Int32) (e w bg T : Nat) (lost all : Int32) (ev be g wt : Nat → Int32) : Prop :=
  e < 64 ∧ e + 1 + w ≤ 64 ∧ bg < e + 1 ∧ g 0 = nI (e + 1) ∧ g 1 = lost ∧ g 2 = nI T ∧ g 3 = all ∧ (∀ j, j < 4 * (e + 1) → ev j = E j) ∧ (∀ j, j < 4 * (e + 1) → be j = E j) ∧ ∀ i c, i < w → c < 3 → ev (4 * (e + 1 + i) + c) = wt (3 * (bg + i) + c)
theorem es_mid_app {E : Nat → Int32} {e w bg T : Nat} {lost all all' p0 p1 p2 : Int32} {ev be g g' wt : Nat → Int32} (h : es_mid E e w bg T lost all ev be g wt) (hw : e + 1 + w < 64) (h0 : g' 0 = g 0) (h1 : g' 1 = g 1) (h2 : g' 2 = g 2) (h3 : g' 3 = all') :
    es_mid E e (w + 1) bg T lost all' (upd (upd (upd ev (4 * (e + 1 + w)) p0) (4 * (e + 1 + w) + 1) p1) (4 * (e + 1 + w) + 2) p2) be g' (upd (upd (upd wt (3 * (bg + w)) p0) (3 * (bg + w) + 1) p1) (3 * (bg + w) + 2) p2) := by
  obtain ⟨a1, a2, a3, a4, a5, a6, a7, a8, a9, a10⟩ := h
  refine ⟨a1, by omega, a3, h0.trans a4, h1.trans a5, h2.trans a6, h3, fun j hj => ?_, a9, fun i c hi hc => ?_⟩
  · rw [pk_un (by omega), pk_un (by omega), pk_un (by omega)]; exact a8 j hj
  · by_cases z : i = w
    · subst z
      rcases (show c = 0 ∨ c = 1 ∨ c = 2 by omega) with rfl | rfl | rfl
      · exact ((pk_un (by omega)).trans ((pk_un (by omega)).trans pk_us)).trans ((pk_un (by omega)).trans ((pk_un (by omega)).trans pk_us)).symm
      · exact ((pk_un (by omega)).trans pk_us).trans ((pk_un (by omega)).trans pk_us).symm
      · exact pk_us.trans pk_us.symm
    · exact ((pk_un (by omega)).trans ((pk_un (by omega)).trans (pk_un (by omega)))).trans ((a10 i c (by omega) hc).trans ((pk_un (by omega)).trans ((pk_un (by omega)).trans (pk_un (by omega)))).symm)
theorem es_giv_c {qs qs' y y' : Nat → Int32} (h : es_giv qs y) (a7 : qs' 7 = qs 7) (a8 : qs' 8 = qs 8) (a9 : qs' 9 = qs 9) (b6 : y' 6 = y 6) (b7 : y' 7 = y 7) (b8 : y' 8 = y 8) : es_giv qs' y' := by
  unfold es_giv at h ⊢
  rw [a7, a8, a9, b6, b7, b8]
  exact h
theorem es_cnt_give {qs y : Nat → Int32} {K G H : Nat} {v : Int32} (hK : K + 1 ≤ H) (hG : G ≤ K) (h : ∀ j, j < 8 → j < G → qs (28 + j) = y (12 + j)) : es_cnt H (upd (upd (upd qs 10 (nI (K + 1))) (28 + G % 8) v) 11 (nI (G + 1))) (upd (upd (upd y 10 (nI (K + 1))) (12 + G % 8) v) 11 (nI (G + 1))) := by
  refine ⟨K + 1, G + 1, ?_, ?_, hK, rfl, rfl, by omega, fun j h8 hj => ?_⟩
  · rw [pk_un (by decide), pk_un (by omega)]; rfl
  · rw [pk_un (by decide), pk_un (by omega)]; rfl
  · by_cases z : j = G % 8
    · subst z
      exact ((pk_un (by omega)).trans pk_us).trans ((pk_un (by omega)).trans pk_us).symm
    · exact ((pk_un (by omega)).trans ((pk_un (by omega)).trans (pk_un (by omega)))).trans ((h j h8 (by omega)).trans ((pk_un (by omega)).trans ((pk_un (by omega)).trans (pk_un (by omega)))).symm)
section
variable {f_terms f_conditions f_happened f_waiting f_lost f_time f_all f_oldHappened f_oldLost f_oldTime f_oldAll f_kept : Int32} {a_termOp a_termValue a_askedCode a_code a_oldCode a_askedArg a_arg a_oldArg a_askedLength a_stack a_question a_oldQuestion a_list a_oldList a_event a_oldEvent : Nat → Int32} {h_listed h_kept h_waits h_begun h_has h_out : Int32} {b_term b_list b_q b_ev b_g b_keptQ b_keptEv b_keptG b_waiting b_stack b_met b_view b_sorted b_breaks : Nat → Int32} {h_terms : Int32} {E qs ls y : Nat → Int32} {s e w bg T : Nat} {post : SX → Prop} {PY : (Int32 → SY → Prop) → SY → Prop} {Gof : (Int32 → SY → Prop) → Prop}
theorem ss_live (hs : s < 6) (ht : es_tms E (e + 1) T) (hte : es_tm E e = T) (hT : T < 2 ^ 31) (md : es_mid E e w bg T f_lost f_all a_event b_ev b_g b_waiting)
    (hq : ∀ j, j < 64 → a_question (64 * s + j) = qs j) (hl : ∀ j, j < 256 → a_list (256 * s + j) = ls j) (hy : ∀ j, j < 100 → b_q (100 * s + j) = y j)
    (h0 : qs 0 = y 0) (nz : ¬ qs 0 = 0) (gv : es_giv qs y) (ct : es_cnt e qs y) (B : es_body E a_code a_arg s e T qs ls y)
    (FY : ∀ Q, (∀ has out stk met vw srt bk, wpY_ask (PY Q) (h_terms, h_listed, h_kept, (nI (bg + w)), (nI bg), has, out, b_term, b_list, b_q, b_ev, b_g, b_keptQ, b_keptEv, b_keptG, b_waiting, stk, met, vw, srt, bk) (nI s) (nI e)) → Gof Q)
    (K : ∀ w' lost' all' stk' qs' ls' ev' y' g' wt', es_mid E e w' bg T lost' all' ev' b_ev g' wt' → es_slot E a_code a_arg s (e + 1) T qs' ls' y' →
      (∀ Q, (∀ has out stk met vw srt bk, PY Q (h_terms, h_listed, h_kept, (nI (bg + w')), (nI bg), has, out, b_term, b_list, (ed_sp b_q (100 * s) 100 y'), b_ev, g', b_keptQ, b_keptEv, b_keptG, wt', stk, met, vw, srt, bk)) → Gof Q) →
      post (f_terms, f_conditions, (nI (e + 1)), (nI w'), lost', (nI T), all', f_oldHappened, f_oldLost, f_oldTime, f_oldAll, f_kept, a_termOp, a_termValue, a_askedCode, a_code, a_oldCode, a_askedArg, a_arg, a_oldArg, a_askedLength, stk', (ed_sp a_question (64 * s) 64 qs'), a_oldQuestion, (ed_sp a_list (256 * s) 256 ls'), a_oldList, ev', a_oldEvent)) :
    wpX_see post (f_terms, f_conditions, (nI (e + 1)), (nI w), f_lost, (nI T), f_all, f_oldHappened, f_oldLost, f_oldTime, f_oldAll, f_kept, a_termOp, a_termValue, a_askedCode, a_code, a_oldCode, a_askedArg, a_arg, a_oldArg, a_askedLength, a_stack, a_question, a_oldQuestion, a_list, a_oldList, a_event, a_oldEvent) (nI s) (nI e) := by
  have md' := md
  obtain ⟨a1, a2, a3, a4, a5, a6, a7, a8, a9, a10⟩ := md
  have e1 := ed_sp_of (a := a_question) (B := 64 * s) (n := 64) hq
  have e2 := ed_sp_of (a := a_list) (B := 256 * s) (n := 256) hl
  have e3 := ed_sp_of (a := b_q) (B := 100 * s) (n := 100) hy
  obtain ⟨g7, ⟨r, r1, r2, r3, r4⟩, ro, ro1, ro2, ro3⟩ := gv
  obtain ⟨KK, G, k1, k2, k3, k4, k5, k6, k7⟩ := ct
  have main := xs_see (post := post) (f_terms := f_terms) (f_conditions := f_conditions) (f_happened := nI (e + 1)) (f_waiting := nI w) (f_lost := f_lost) (f_time := nI T) (f_all := f_all) (f_oldHappened := f_oldHappened) (f_oldLost := f_oldLost) (f_oldTime := f_oldTime) (f_oldAll := f_oldAll) (f_kept := f_kept) (a_termOp := a_termOp) (a_termValue := a_termValue) (a_askedCode := a_askedCode) (a_code := a_code) (a_oldCode := a_oldCode) (a_askedArg := a_askedArg) (a_arg := a_arg) (a_oldArg := a_oldArg) (a_askedLength := a_askedLength) (a_stack := a_stack) (a_question := a_question) (a_oldQuestion := a_oldQuestion) (a_list := a_list) (a_oldList := a_oldList) (a_event := a_event) (a_oldEvent := a_oldEvent) (qs := qs) (ls := ls) (y := y) (E := E) (s := s) (e := e) (T := T) hs a1 a8 ht hte hT rfl h0 B
    (fun hn stk qs' ls' B' fr => ?_) (fun v hv stk qs' ls' B' fr => ?_)
  · rw [e1, e2] at main
    exact main
  · have f : ∀ j, j < 12 ∨ (28 ≤ j ∧ j < 36) → qs' j = qs j := fun j hj => fr j (by omega) (by omega) (by omega) (by omega)
    refine K w f_lost f_all stk qs' ls' a_event y b_g b_waiting md' ⟨(f 0 (by decide)).trans h0, Or.inr ⟨?_, ?_, B'⟩⟩ (fun Q h => FY Q (fun has out stk met vw srt bk => ?_))
    · exact ⟨(f 7 (by decide)).trans g7, ⟨r, r1, r2, (f 8 (by decide)).trans r3, r4⟩, ro, ro1, (f 9 (by decide)).trans ro2, ro3⟩
    · exact ⟨KK, G, (f 10 (by decide)).trans k1, k2, by omega, (f 11 (by decide)).trans k4, k5, k6, fun j u v => (f _ (by omega)).trans (k7 j u v)⟩
    · refine ys_ask hs a1 a9 ht hte hT h0 hy B (fun has out met vw srt bk stk z _ => br_t (z hn) ?_)
      have := h has out stk met vw srt bk
      rw [e3] at this
      exact this
  · have f : ∀ j, j < 12 ∨ (28 ≤ j ∧ j < 36) → qs' j = qs j := fun j hj => fr j (by omega) (by omega) (by omega) (by omega)
    have f7 : qs' 7 = y 6 := (f 7 (by decide)).trans g7
    have f0 : qs' 0 = y 0 := (f 0 (by decide)).trans h0
    have k7' : ∀ j, j < 8 → j < G → qs' (28 + j) = y (12 + j) := fun j u v => (f _ (by omega)).trans (k7 j u v)
    have gv' : es_giv qs' y := ⟨f7, ⟨r, r1, r2, (f 8 (by decide)).trans r3, r4⟩, ro, ro1, (f 9 (by decide)).trans ro2, ro3⟩
    have c1 : ∀ v1 v2 v3 j, j ≠ 10 → j ≠ 11 → (j < 28 ∨ 36 ≤ j) → upd (upd (upd qs' 10 v1) (28 + G % 8) v2) 11 v3 j = qs' j := fun v1 v2 v3 j x y z => by rw [pk_un y, pk_un (by omega), pk_un x]
    have c2 : ∀ v1 v2 v3 j, j ≠ 10 → j ≠ 11 → (j < 12 ∨ 20 ≤ j) → upd (upd (upd y 10 v1) (12 + G % 8) v2) 11 v3 j = y j := fun v1 v2 v3 j x y z => by rw [pk_un y, pk_un (by omega), pk_un x]
    have sl : es_slot E a_code a_arg s (e + 1) T (upd (upd (upd qs' 10 (nI (KK + 1))) (28 + G % 8) v) 11 (nI (G + 1))) ls' (upd (upd (upd y 10 (nI (KK + 1))) (12 + G % 8) v) 11 (nI (G + 1))) := by
      refine ⟨?_, Or.inr ⟨es_giv_c gv' (c1 _ _ _ 7 (by decide) (by decide) (by decide)) (c1 _ _ _ 8 (by decide) (by decide) (by decide)) (c1 _ _ _ 9 (by decide) (by decide) (by decide)) (c2 _ _ _ 6 (by decide) (by decide) (by decide)) (c2 _ _ _ 7 (by decide) (by decide) (by decide)) (c2 _ _ _ 8 (by decide) (by decide) (by decide)),
        es_cnt_give (by omega) k6 k7', es_body_c (fun j hj => c1 _ _ _ j (by omega) (by omega) (by omega)) (fun j hj => c2 _ _ _ j (by omega) (by omega) (by omega)) B'⟩⟩
      rw [c1 _ _ _ 0 (by decide) (by decide) (by decide), c2 _ _ _ 0 (by decide) (by decide) (by decide)]
      exact f0
    have hyp : ∀ {P : Prop}, (y 6 < v → P) → qs' 7 < v → P := fun h z => h (by rw [← f7]; exact z)
    refine xs_put (K := KK) (G := G) (r := r) (ro := ro) (H := e + 1) (w := w) hs a2 ((f 10 (by decide)).trans k1) (by omega) ((f 11 (by decide)).trans k4) k6 ((f 8 (by decide)).trans r3) r1 r2 ((f 9 (by decide)).trans ro2) ro1 (fun z1 => ?_) (fun z1 z2 => ?_) (fun z1 z2 z3 => ?_) (fun z1 z2 z3 z4 => ?_) (fun z1 z2 z3 z4 => ?_)
    · refine K w f_lost f_all stk qs' ls' a_event y b_g b_waiting md' ⟨f0, Or.inr ⟨gv', ⟨KK, G, (f 10 (by decide)).trans k1, k2, by omega, (f 11 (by decide)).trans k4, k5, k6, k7'⟩, B'⟩⟩ (fun Q h => FY Q (fun has out stk met vw srt bk => ?_))
      refine ys_ask hs a1 a9 ht hte hT h0 hy B (fun has out met vw srt bk stk _ z => ?_)
      obtain ⟨rfl, rfl⟩ := z v hv
      have go := ys_137 (post := PY Q) (y := y) (s := s) (H := e + 1) (w := w) (bg := bg) (K := KK) (G := G) (r := r) (ro := ro) (h_terms := h_terms) (h_listed := h_listed) (h_kept := h_kept) (b_term := b_term) (b_list := b_list) (b_q := b_q) (b_ev := b_ev) (b_g := b_g) (b_keptQ := b_keptQ) (b_keptEv := b_keptEv) (b_keptG := b_keptG) (b_waiting := b_waiting) (b_stack := stk) (b_met := met) (b_view := vw) (b_sorted := srt) (b_breaks := bk) hs a2 a3 a4 k2 (by omega) k5 k6 r4 r1 r2 ro3 ro1
        (fun _ => h _ _ _ _ _ _ _) (fun x => absurd x (by rw [← f7]; exact z1)) (fun x => absurd x (by rw [← f7]; exact z1)) (fun x => absurd x (by rw [← f7]; exact z1)) (fun x => absurd x (by rw [← f7]; exact z1))
      rw [e3] at go
      exact go
    · refine K w f_lost f_all stk _ ls' a_event (upd y 10 (nI (KK + 1))) b_g b_waiting md' ⟨f0, Or.inr ⟨gv', ⟨KK + 1, G, rfl, rfl, by omega, (f 11 (by decide)).trans k4, k5, by omega, fun j u v => ?_⟩, es_body_c (fun j hj => pk_un (by omega)) (fun j hj => pk_un (by omega)) B'⟩⟩ (fun Q h => FY Q (fun has out stk met vw srt bk => ?_))
      · rw [pk_un (by omega), pk_un (by omega)]; exact k7' j u v
      · refine ys_ask hs a1 a9 ht hte hT h0 hy B (fun has out met vw srt bk stk _ z => ?_)
        obtain ⟨rfl, rfl⟩ := z v hv
        have go := ys_137 (post := PY Q) (y := y) (s := s) (H := e + 1) (w := w) (bg := bg) (K := KK) (G := G) (r := r) (ro := ro) (h_terms := h_terms) (h_listed := h_listed) (h_kept := h_kept) (b_term := b_term) (b_list := b_list) (b_q := b_q) (b_ev := b_ev) (b_g := b_g) (b_keptQ := b_keptQ) (b_keptEv := b_keptEv) (b_keptG := b_keptG) (b_waiting := b_waiting) (b_stack := stk) (b_met := met) (b_view := vw) (b_sorted := srt) (b_breaks := bk) hs a2 a3 a4 k2 (by omega) k5 k6 r4 r1 r2 ro3 ro1
          (fun x => absurd (by rw [← f7]; exact z1) x) (fun _ _ => h _ _ _ _ _ _ _) (fun _ x => absurd x z2) (fun _ x => absurd x z2) (fun _ x => absurd x z2)
        rw [e3] at go
        exact go
    · refine K w f_lost (f_all + 1) stk _ ls' a_event _ (upd b_g 3 (b_g 3 + 1)) b_waiting ⟨a1, a2, a3, a4, a5, a6, congrArg (· + 1) a7, a8, a9, a10⟩ sl (fun Q h => FY Q (fun has out stk met vw srt bk => ?_))
      refine ys_ask hs a1 a9 ht hte hT h0 hy B (fun has out met vw srt bk stk _ z => ?_)
      obtain ⟨rfl, rfl⟩ := z v hv
      have go := ys_137 (post := PY Q) (y := y) (s := s) (H := e + 1) (w := w) (bg := bg) (K := KK) (G := G) (r := r) (ro := ro) (h_terms := h_terms) (h_listed := h_listed) (h_kept := h_kept) (b_term := b_term) (b_list := b_list) (b_q := b_q) (b_ev := b_ev) (b_g := b_g) (b_keptQ := b_keptQ) (b_keptEv := b_keptEv) (b_keptG := b_keptG) (b_waiting := b_waiting) (b_stack := stk) (b_met := met) (b_view := vw) (b_sorted := srt) (b_breaks := bk) hs a2 a3 a4 k2 (by omega) k5 k6 r4 r1 r2 ro3 ro1
        (fun x => absurd (by rw [← f7]; exact z1) x) (fun _ x => absurd z2 x) (fun _ _ _ => h _ _ _ _ _ _ _) (fun _ _ x => absurd z3 x) (fun _ _ x => absurd z3 x)
      rw [e3] at go
      exact go
    · refine K w (f_lost + 1) (f_all + 1) stk _ ls' a_event _ (upd (upd b_g 3 (b_g 3 + 1)) 1 (b_g 1 + 1)) b_waiting ⟨a1, a2, a3, a4, congrArg (· + 1) a5, a6, congrArg (· + 1) a7, a8, a9, a10⟩ sl (fun Q h => FY Q (fun has out stk met vw srt bk => ?_))
      refine ys_ask hs a1 a9 ht hte hT h0 hy B (fun has out met vw srt bk stk _ z => ?_)
      obtain ⟨rfl, rfl⟩ := z v hv
      have go := ys_137 (post := PY Q) (y := y) (s := s) (H := e + 1) (w := w) (bg := bg) (K := KK) (G := G) (r := r) (ro := ro) (h_terms := h_terms) (h_listed := h_listed) (h_kept := h_kept) (b_term := b_term) (b_list := b_list) (b_q := b_q) (b_ev := b_ev) (b_g := b_g) (b_keptQ := b_keptQ) (b_keptEv := b_keptEv) (b_keptG := b_keptG) (b_waiting := b_waiting) (b_stack := stk) (b_met := met) (b_view := vw) (b_sorted := srt) (b_breaks := bk) hs a2 a3 a4 k2 (by omega) k5 k6 r4 r1 r2 ro3 ro1
        (fun x => absurd (by rw [← f7]; exact z1) x) (fun _ x => absurd z2 x) (fun _ _ x => absurd x z3) (fun _ _ _ _ => h _ _ _ _ _ _ _) (fun _ _ _ x => absurd z4 (by omega))
      rw [e3] at go
      exact go
    · refine K (w + 1) f_lost (f_all + 1) stk _ ls' _ _ (upd b_g 3 (b_g 3 + 1)) _ (es_mid_app md' z4 rfl rfl rfl (congrArg (· + 1) a7)) sl (fun Q h => FY Q (fun has out stk met vw srt bk => ?_))
      refine ys_ask hs a1 a9 ht hte hT h0 hy B (fun has out met vw srt bk stk _ z => ?_)
      obtain ⟨rfl, rfl⟩ := z v hv
      have go := ys_137 (post := PY Q) (y := y) (s := s) (H := e + 1) (w := w) (bg := bg) (K := KK) (G := G) (r := r) (ro := ro) (h_terms := h_terms) (h_listed := h_listed) (h_kept := h_kept) (b_term := b_term) (b_list := b_list) (b_q := b_q) (b_ev := b_ev) (b_g := b_g) (b_keptQ := b_keptQ) (b_keptEv := b_keptEv) (b_keptG := b_keptG) (b_waiting := b_waiting) (b_stack := stk) (b_met := met) (b_view := vw) (b_sorted := srt) (b_breaks := bk) hs a2 a3 a4 k2 (by omega) k5 k6 r4 r1 r2 ro3 ro1
        (fun x => absurd (by rw [← f7]; exact z1) x) (fun _ x => absurd z2 x) (fun _ _ x => absurd x z3) (fun _ _ _ x => absurd x (by omega)) (fun _ _ _ _ => h _ _ _ _ _ _ _)
      rw [e3] at go
      exact go
end
end
section
/-! one event: all questions in step -/
def es_sl (E cd ar : Nat → Int32) (T : Nat) (hf : Nat → Nat) (aq al bq : Nat → Int32) : Prop :=
  ∀ t, t < 6 → ∃ qs ls y, (∀ j, j < 64 → aq (64 * t + j) = qs j) ∧ (∀ j, j < 256 → al (256 * t + j) = ls j) ∧ (∀ j, j < 100 → bq (100 * t + j) = y j) ∧ es_slot E cd ar t (hf t) T qs ls y
theorem es_sl_set {E cd ar aq al bq qs ls y : Nat → Int32} {T s : Nat} {hf hf' : Nat → Nat} (h : es_sl E cd ar T hf aq al bq) (hs : s < 6) (hh : ∀ t, t < 6 → t ≠ s → hf' t = hf t) (hn : es_slot E cd ar s (hf' s) T qs ls y) :
    es_sl E cd ar T hf' (ed_sp aq (64 * s) 64 qs) (ed_sp al (256 * s) 256 ls) (ed_sp bq (100 * s) 100 y) := by
  intro t ht
  by_cases z : t = s
  · subst z
    exact ⟨qs, ls, y, fun j hj => ed_sp_get hj, fun j hj => ed_sp_get hj, fun j hj => ed_sp_get hj, hn⟩
  · obtain ⟨q, l, v, a, b, c, d⟩ := h t ht
    refine ⟨q, l, v, fun j hj => ?_, fun j hj => ?_, fun j hj => ?_, ?_⟩
    · rw [ed_sp_out (by omega)]; exact a j hj
    · rw [ed_sp_out (by omega)]; exact b j hj
    · rw [ed_sp_out (by omega)]; exact c j hj
    · rw [hh t ht z]; exact d
section
variable {f_terms f_conditions f_happened f_waiting f_lost f_time f_all f_oldHappened f_oldLost f_oldTime f_oldAll f_kept : Int32} {a_termOp a_termValue a_askedCode a_code a_oldCode a_askedArg a_arg a_oldArg a_askedLength a_stack a_question a_oldQuestion a_list a_oldList a_event a_oldEvent : Nat → Int32} {h_terms h_listed h_kept h_waits h_begun h_has h_out : Int32} {b_term b_list b_q b_ev b_g b_keptQ b_keptEv b_keptG b_waiting b_stack b_met b_view b_sorted b_breaks : Nat → Int32} {E : Nat → Int32} {e bg T : Nat} {x4 : Int32} {post : Int32 → SX → Prop} {J : Int32 → Int32 → Int32 → Int32 → Int32 → Int32 → Int32 → Int32 → Int32 → Int32 → Int32 → Int32 → (Nat → Int32) → (Nat → Int32) → (Nat → Int32) → (Nat → Int32) → (Nat → Int32) → (Nat → Int32) → (Nat → Int32) → (Nat → Int32) → (Nat → Int32) → (Nat → Int32) → (Nat → Int32) → (Nat → Int32) → (Nat → Int32) → (Nat → Int32) → (Nat → Int32) → (Nat → Int32) → Prop} {PY : (Int32 → SY → Prop) → SY → Prop} {Gof : (Int32 → SY → Prop) → Prop}
theorem ss_slots (ht : es_tms E (e + 1) T) (hte : es_tm E e = T) (hT : T < 2 ^ 31)
    (K : ∀ (w : Nat) (lost all : Int32) (stk aq al ev bq g wt : Nat → Int32), es_mid E e w bg T lost all ev b_ev g wt → es_sl E a_code a_arg T (fun _ => e + 1) aq al bq →
      (∀ Q, (∀ has out ystk met vw srt bk, PY Q (h_terms, h_listed, h_kept, (nI (bg + w)), (nI bg), has, out, b_term, b_list, bq, b_ev, g, b_keptQ, b_keptEv, b_keptG, wt, ystk, met, vw, srt, bk)) → Gof Q) → J f_terms f_conditions (nI (e + 1)) (nI w) lost (nI T) all f_oldHappened f_oldLost f_oldTime f_oldAll f_kept a_termOp a_termValue a_askedCode a_code a_oldCode a_askedArg a_arg a_oldArg a_askedLength stk aq a_oldQuestion al a_oldList ev a_oldEvent) :
    ∀ (d s w : Nat) (lost all : Int32) (stk aq al ev bq g wt : Nat → Int32), s + d = 6 → es_mid E e w bg T lost all ev b_ev g wt → es_sl E a_code a_arg T (fun t => if t < s then e + 1 else e) aq al bq →
      (∀ Q, (∀ has out ystk met vw srt bk, wY_happen_67 (PY Q) (nI e) (d + 1) (nI s) h_terms h_listed h_kept (nI (bg + w)) (nI bg) has out b_term b_list bq b_ev g b_keptQ b_keptEv b_keptG wt ystk met vw srt bk) → Gof Q) → ∀ n, d < n →
      wX_send_81 post J x4 (nI e) n (nI s) f_terms f_conditions (nI (e + 1)) (nI w) lost (nI T) all f_oldHappened f_oldLost f_oldTime f_oldAll f_kept a_termOp a_termValue a_askedCode a_code a_oldCode a_askedArg a_arg a_oldArg a_askedLength stk aq a_oldQuestion al a_oldList ev a_oldEvent := by
  intro d
  induction d with
  | zero =>
    intro s w lost all stk aq al ev bq g wt hs md sl FY n hn
    obtain ⟨n, rfl⟩ : ∃ m, n = m + 1 := ⟨n - 1, by omega⟩
    obtain rfl : s = 6 := by omega
    rw [wX_send_81]
    refine br_t (Int32.le_refl _) (K w lost all stk aq al ev bq g wt md (fun t h6 => ?_) (fun Q h => FY Q (fun has out ystk met vw srt bk => ?_)))
    · obtain ⟨q, l, v, a, b, c, d⟩ := sl t h6
      dsimp only at d
      rw [if_pos h6] at d
      exact ⟨q, l, v, a, b, c, d⟩
    · exact br_t (Int32.le_refl _) (h has out ystk met vw srt bk)
  | succ d ih =>
    intro s w lost all stk aq al ev bq g wt hs md sl FY n hn
    obtain ⟨n, rfl⟩ : ∃ m, n = m + 1 := ⟨n - 1, by omega⟩
    have h6 : s < 6 := by omega
    have md' := md
    obtain ⟨a1, a2, a3, a4, a5, a6, a7, a8, a9, a10⟩ := md
    have q0 : (100 : Int32) * nI s = nI (100 * s) := by rw [← pk_mul]; rfl
    obtain ⟨qs, ls, y, hq, hl, hy, h0, sl0⟩ := sl s h6
    have y0 : bq (100 * s) = y 0 := hy 0 (by decide)
    have x0 : aq (64 * s) = qs 0 := hq 0 (by decide)
    rw [wX_send_81]
    refine br_f (nI_ge (b := 6) (by omega) (by decide)) ?_
    rcases sl0 with z | ⟨gv, ct, B⟩
    · refine xs_see0 h6 (x0.trans z) (nm_r (nI_1 _) ?_)
      refine ih (s + 1) w lost all stk aq al ev bq g wt (by omega) md' (fun t ht6 => ?_) (fun Q h => FY Q (fun has out ystk met vw srt bk => ?_)) n (by omega)
      · by_cases c : t = s
        · subst c
          exact ⟨qs, ls, y, hq, hl, hy, h0, Or.inl z⟩
        · obtain ⟨q, l, v, a, b, c', d⟩ := sl t ht6
          refine ⟨q, l, v, a, b, c', ?_⟩
          dsimp only at d ⊢
          by_cases g : t < s
          · rw [if_pos g] at d
            rw [if_pos (by omega)]; exact d
          · rw [if_neg g] at d
            rw [if_neg (by omega)]; exact d
      · rw [wY_happen_67]
        dsimp only
        rw [q0, nI_clamp (by omega), y0]
        exact br_f (nI_ge (b := 6) (by omega) (by decide)) ⟨vp_in_nI (by omega) (by omega), br_t (h0.symm.trans z) (nm_r (nI_1 _) (h has out ystk met vw srt bk))⟩
    · dsimp only at ct B
      rw [if_neg (by omega)] at ct B
      have nz : ¬ qs 0 = 0 := by
        obtain ⟨C, F, _, _, _, _, _, _, _, b⟩ := B
        rcases b with b | b | b
        · rw [b.1]; decide
        · rw [b.1]; decide
        · rw [b.1]; decide
      refine ss_live (PY := fun Q u => match u with | (h_terms, h_listed, h_kept, h_waits, h_begun, h_has, h_out, b_term, b_list, b_q, b_ev, b_g, b_keptQ, b_keptEv, b_keptG, b_waiting, b_stack, b_met, b_view, b_sorted, b_breaks) => ∀ x5 : Int32, x5 = nI s + 1 → wY_happen_67 (PY Q) (nI e) (d + 1) x5 h_terms h_listed h_kept h_waits h_begun h_has h_out b_term b_list b_q b_ev b_g b_keptQ b_keptEv b_keptG b_waiting b_stack b_met b_view b_sorted b_breaks) (Gof := Gof) (b_g := g) (b_ev := b_ev) (b_waiting := wt) (b_q := bq) (bg := bg) (w := w) (h_terms := h_terms) (h_listed := h_listed) (h_kept := h_kept) (b_term := b_term) (b_list := b_list) (b_keptQ := b_keptQ) (b_keptEv := b_keptEv) (b_keptG := b_keptG) h6 ht hte hT md' hq hl hy h0 nz gv ct B (fun Q h => FY Q (fun has out ystk met vw srt bk => ?_)) (fun w' lost' all' stk' qs' ls' ev' y' g' wt' md2 sl2 FY2 => ?_)
      · rw [wY_happen_67]
        dsimp only
        rw [q0, nI_clamp (by omega), y0]
        exact br_f (nI_ge (b := 6) (by omega) (by decide)) ⟨vp_in_nI (by omega) (by omega), br_f (fun c => nz (h0.trans c)) (h has out ystk met vw srt bk)⟩
      · refine nm_r (nI_1 _) ?_
        refine ih (s + 1) w' lost' all' stk' (ed_sp aq (64 * s) 64 qs') (ed_sp al (256 * s) 256 ls') ev' (ed_sp bq (100 * s) 100 y') g' wt' (by omega) md2 (es_sl_set sl h6 (fun t ht6 ne => ?_) ?_) (fun Q h => FY2 Q (fun has out ystk met vw srt bk => ?_)) n (by omega)
        · by_cases g : t < s
          · rw [if_pos g, if_pos (by omega)]
          · rw [if_neg g, if_neg (by omega)]
        · rw [if_pos (by omega)]
          exact sl2
        · exact nm_r (nI_1 _) (h has out ystk met vw srt bk)
end
end
section
/-! all events of a call of send -/
theorem es_sl_E {E E' cd ar aq al bq : Nat → Int32} {T H : Nat} (h : ∀ j, j < 4 * H → E j = E' j) (sl : es_sl E cd ar T (fun _ => H) aq al bq) : es_sl E' cd ar T (fun _ => H) aq al bq := by
  intro t ht
  obtain ⟨q, l, v, a, b, c, h0, d⟩ := sl t ht
  refine ⟨q, l, v, a, b, c, h0, ?_⟩
  rcases d with d | ⟨d1, d2, d3⟩
  · exact Or.inl d
  · exact Or.inr ⟨d1, d2, es_body_E h d3⟩
theorem es_tms_new {E : Nat → Int32} {H T : Nat} (h : es_tms E H T) (hT : T < 2 ^ 31) : es_tms (upd E (4 * H + 3) (nI T)) (H + 1) T ∧ es_tm (upd E (4 * H + 3) (nI T)) H = T := by
  have e1 : es_tm (upd E (4 * H + 3) (nI T)) H = T := by
    unfold es_tm
    rw [pk_us, nI_clamp hT]
  have e2 : ∀ k, k < H → es_tm (upd E (4 * H + 3) (nI T)) k = es_tm E k := by
    intro k hk
    unfold es_tm
    rw [pk_un (by omega)]
  refine ⟨⟨fun k hk => ?_, fun a b hab hb => ?_⟩, e1⟩
  · by_cases c : k = H
    · subst c
      rw [e1, pk_us]
      exact ⟨rfl, Nat.le_refl _⟩
    · rw [e2 k (by omega), pk_un (by omega)]
      exact h.1 k (by omega)
  · by_cases c : b = H
    · subst c
      rw [e1]
      by_cases d : a = b
      · subst d; rw [e1]; exact Nat.le_refl _
      · rw [e2 a (by omega)]
        exact (h.1 a (by omega)).2
    · rw [e2 b (by omega), e2 a (by omega)]
      exact h.2 a b hab (by omega)
/-- between two events of a call of send: H have happened, w wait -/
def es_top (H w bg T : Nat) (lost all : Int32) (cd ar aq al ev bq be g wt : Nat → Int32) : Prop :=
  H + w ≤ 64 ∧ bg < H ∧ g 0 = nI H ∧ g 1 = lost ∧ g 2 = nI T ∧ g 3 = all ∧ (∀ j, j < 4 * H → be j = ev j) ∧ es_tms ev H T ∧ (∀ i c, i < w → c < 3 → ev (4 * (H + i) + c) = wt (3 * (bg + i) + c)) ∧ es_sl ev cd ar T (fun _ => H) aq al bq
section
variable {f_terms f_conditions f_happened f_waiting f_lost f_time f_all f_oldHappened f_oldLost f_oldTime f_oldAll f_kept : Int32} {a_termOp a_termValue a_askedCode a_code a_oldCode a_askedArg a_arg a_oldArg a_askedLength a_stack a_question a_oldQuestion a_list a_oldList a_event a_oldEvent : Nat → Int32} {h_terms h_listed h_kept h_waits h_begun h_has h_out : Int32} {b_term b_list b_q b_ev b_g b_keptQ b_keptEv b_keptG b_waiting b_stack b_met b_view b_sorted b_breaks : Nat → Int32} {H w bg T : Nat} {x4 p0 p1 p2 : Int32} {post : Int32 → SX → Prop} {J : Int32 → Int32 → Int32 → Int32 → Int32 → Int32 → Int32 → Int32 → Int32 → Int32 → Int32 → Int32 → (Nat → Int32) → (Nat → Int32) → (Nat → Int32) → (Nat → Int32) → (Nat → Int32) → (Nat → Int32) → (Nat → Int32) → (Nat → Int32) → (Nat → Int32) → (Nat → Int32) → (Nat → Int32) → (Nat → Int32) → (Nat → Int32) → (Nat → Int32) → (Nat → Int32) → (Nat → Int32) → Prop} {PY : (Int32 → SY → Prop) → SY → Prop} {Gof : (Int32 → SY → Prop) → Prop}
theorem ss_event (hT : T < 2 ^ 31) (hw : H + 1 + w ≤ 64) (hbg : bg < H + 1) (g0 : b_g 0 = nI H) (g1 : b_g 1 = f_lost) (g2 : b_g 2 = nI T) (g3 : b_g 3 = f_all) (hev : ∀ j, j < 4 * H → b_ev j = a_event j) (ht : es_tms a_event H T)
    (hqu : ∀ i c, i < w → c < 3 → a_event (4 * (H + 1 + i) + c) = b_waiting (3 * (bg + i) + c)) (sl : es_sl a_event a_code a_arg T (fun _ => H) a_question a_list b_q) (e0 : a_event (4 * H) = p0) (e1 : a_event (4 * H + 1) = p1) (e2 : a_event (4 * H + 2) = p2)
    (FY : ∀ Q, (∀ has out ystk met vw srt bk, wpY_happen (PY Q) (h_terms, h_listed, h_kept, (nI (bg + w)), (nI bg), has, out, b_term, b_list, b_q, b_ev, b_g, b_keptQ, b_keptEv, b_keptG, b_waiting, ystk, met, vw, srt, bk) p0 p1 p2) → Gof Q)
    (K : ∀ (w : Nat) (lost all : Int32) (stk aq al ev bq be g wt : Nat → Int32), es_top (H + 1) w bg T lost all a_code a_arg aq al ev bq be g wt → 
      (∀ Q, (∀ has out ystk met vw srt bk, PY Q (h_terms, h_listed, h_kept, (nI (bg + w)), (nI bg), has, out, b_term, b_list, bq, be, g, b_keptQ, b_keptEv, b_keptG, wt, ystk, met, vw, srt, bk)) → Gof Q) → J f_terms f_conditions (nI (H + 1)) (nI w) lost (nI T) all f_oldHappened f_oldLost f_oldTime f_oldAll f_kept a_termOp a_termValue a_askedCode a_code a_oldCode a_askedArg a_arg a_oldArg a_askedLength stk aq a_oldQuestion al a_oldList ev a_oldEvent) :
    ∃ n, wX_send_81 post J x4 (nI H) n 0 f_terms f_conditions (nI (H + 1)) (nI w) f_lost (nI T) f_all f_oldHappened f_oldLost f_oldTime f_oldAll f_kept a_termOp a_termValue a_askedCode a_code a_oldCode a_askedArg a_arg a_oldArg a_askedLength a_stack a_question a_oldQuestion a_list a_oldList (upd a_event (4 * H + 3) (nI T)) a_oldEvent := by
  obtain ⟨ht', hte⟩ := es_tms_new ht hT
  have hE : ∀ j, j < 4 * H → a_event j = upd a_event (4 * H + 3) (nI T) j := fun j hj => (pk_un (by omega)).symm
  have q0 : (4 : Int32) * nI H = nI (4 * H) := by rw [← pk_mul]; rfl
  have q1 : nI (4 * H) + 1 = nI (4 * H + 1) := nI_add _ 1
  have q2 : nI (4 * H) + 2 = nI (4 * H + 2) := nI_add _ 2
  have q3 : nI (4 * H) + 3 = nI (4 * H + 3) := nI_add _ 3
  refine ⟨7, ?_⟩
  refine ss_slots (E := upd a_event (4 * H + 3) (nI T)) (e := H) (bg := bg) (T := T) (PY := PY) (Gof := Gof) (b_ev := upd (upd (upd (upd b_ev (4 * H) p0) (4 * H + 1) p1) (4 * H + 2) p2) (4 * H + 3) (nI T)) (h_terms := h_terms) (h_listed := h_listed) (h_kept := h_kept) (b_term := b_term) (b_list := b_list) (b_keptQ := b_keptQ) (b_keptEv := b_keptEv) (b_keptG := b_keptG) ht' hte hT (fun w' lost all stk aq al ev bq g wt md sl' FY' => ?_) 6 0 w f_lost f_all a_stack a_question a_list _ b_q (upd b_g 0 (nI (H + 1))) b_waiting (by omega) ?_ ?_ (fun Q h => FY Q (fun has out ystk met vw srt bk => ?_)) 7 (by omega)
  · obtain ⟨a1, a2, a3, a4, a5, a6, a7, a8, a9, a10⟩ := md
    refine K w' lost all stk aq al ev bq _ g wt ⟨by omega, by omega, a4, a5, a6, a7, fun j hj => (a9 j hj).trans (a8 j hj).symm, ?_, a10, es_sl_E (fun j hj => (a8 j hj).symm) sl'⟩ FY'
    have e3 : ∀ k, k < H + 1 → ev (4 * k + 3) = upd a_event (4 * H + 3) (nI T) (4 * k + 3) := fun k hk => a8 _ (by omega)
    have e4 : ∀ k, k < H + 1 → es_tm ev k = es_tm (upd a_event (4 * H + 3) (nI T)) k := fun k hk => congrArg Int32.toNatClampNeg (e3 k hk)
    refine ⟨fun k hk => ?_, fun a b hab hb => ?_⟩
    · rw [e3 k hk, e4 k hk]; exact ht'.1 k hk
    · rw [e4 a (by omega), e4 b hb]; exact ht'.2 a b hab hb
  · refine ⟨by omega, by omega, hbg, rfl, g1, g2, g3, fun _ _ => rfl, fun j hj => ?_, fun i c hi hc => ?_⟩
    · by_cases c3 : j = 4 * H + 3
      · subst c3; exact pk_us.trans pk_us.symm
      · rw [pk_un c3, pk_un c3]
        by_cases c2 : j = 4 * H + 2
        · subst c2; exact pk_us.trans e2.symm
        · rw [pk_un c2]
          by_cases c1 : j = 4 * H + 1
          · subst c1; exact pk_us.trans e1.symm
          · rw [pk_un c1]
            by_cases c0 : j = 4 * H
            · subst c0; exact pk_us.trans e0.symm
            · rw [pk_un c0]; exact hev j (by omega)
    · rw [pk_un (by omega)]; exact hqu i c hi hc
  · intro t ht6
    have := es_sl_E hE sl t ht6
    dsimp only
    rw [if_neg (by omega)]
    exact this
  · unfold wpY_happen
    dsimp only
    rw [g0, nI_1]
    refine nm_e (nm_e ?_)
    rw [q0, q1, q2, q3, nI_clamp (by omega), nI_clamp (by omega), nI_clamp (by omega), nI_clamp (by omega)]
    refine ⟨vp_in_nI (by omega) (by omega), nm_e ⟨vp_in_nI (by omega) (by omega), nm_e ⟨vp_in_nI (by omega) (by omega), nm_e ⟨vp_in_nI (by omega) (by omega), nm_r (e' := upd (upd (upd (upd b_ev (4 * H) p0) (4 * H + 1) p1) (4 * H + 2) p2) (4 * H + 3) (nI T)) ?_ ⟨7, h has out ystk met vw srt bk⟩⟩⟩⟩⟩
    rw [show upd b_g 0 (nI (H + 1)) 2 = b_g 2 from rfl, g2]
theorem ss_send (hT : T < 2 ^ 31) (y4 : Int32)
    (K : ∀ (H bg : Nat) (lost all : Int32) (stk aq al ev bq be g wt : Nat → Int32), es_top H 0 bg T lost all a_code a_arg aq al ev bq be g wt →
      (∀ Q : Int32 → SY → Prop, (∀ has out ystk met vw srt bk, Q (all - y4) (h_terms, h_listed, h_kept, (nI bg), (nI bg), has, out, b_term, b_list, bq, be, g, b_keptQ, b_keptEv, b_keptG, wt, ystk, met, vw, srt, bk)) → Gof Q) → post (all - x4) (f_terms, f_conditions, (nI H), 0, lost, (nI T), all, f_oldHappened, f_oldLost, f_oldTime, f_oldAll, f_kept, a_termOp, a_termValue, a_askedCode, a_code, a_oldCode, a_askedArg, a_arg, a_oldArg, a_askedLength, stk, aq, a_oldQuestion, al, a_oldList, ev, a_oldEvent)) :
    ∀ (d H w bg : Nat) (lost all : Int32) (stk aq al ev bq be g wt : Nat → Int32), H + d = 64 → es_top H w bg T lost all a_code a_arg aq al ev bq be g wt →
      (∀ Q : Int32 → SY → Prop, (∀ has out ystk met vw srt bk, wY_send_47 Q y4 (d + 1) h_terms h_listed h_kept (nI (bg + w)) (nI bg) has out b_term b_list bq be g b_keptQ b_keptEv b_keptG wt ystk met vw srt bk) → Gof Q) → ∀ n, d < n →
      wX_send_33 post x4 n f_terms f_conditions (nI H) (nI w) lost (nI T) all f_oldHappened f_oldLost f_oldTime f_oldAll f_kept a_termOp a_termValue a_askedCode a_code a_oldCode a_askedArg a_arg a_oldArg a_askedLength stk aq a_oldQuestion al a_oldList ev a_oldEvent := by
  intro d
  induction d with
  | zero =>
    intro H w bg lost all stk aq al ev bq be g wt hd tp FY n hn
    obtain ⟨n, rfl⟩ : ∃ m, n = m + 1 := ⟨n - 1, by omega⟩
    obtain rfl : w = 0 := by have := tp.1; omega
    rw [wX_send_33]
    refine br_t (Int32.le_refl _) (K H bg lost all stk aq al ev bq be g wt tp (fun Q h => FY Q (fun has out ystk met vw srt bk => ?_)))
    rw [wY_send_47]
    dsimp only
    rw [tp.2.2.2.2.2.1]
    exact br_t (Int32.le_refl _) (h has out ystk met vw srt bk)
  | succ d ih =>
    intro H w bg lost all stk aq al ev bq be g wt hd tp FY n hn
    obtain ⟨n, rfl⟩ : ∃ m, n = m + 1 := ⟨n - 1, by omega⟩
    have tp' := tp
    obtain ⟨t1, t2, t3, t4, t5, t6, t7, t8, t9, t10⟩ := tp
    rw [wX_send_33]
    refine pk_le w 0 (fun c => ?_) (fun c => ?_)
    · obtain rfl : w = 0 := by omega
      refine K H bg lost all stk aq al ev bq be g wt tp' (fun Q h => FY Q (fun has out ystk met vw srt bk => ?_))
      rw [wY_send_47]
      dsimp only
      rw [t6]
      exact br_t (Int32.le_refl _) (h has out ystk met vw srt bk)
    · obtain ⟨w, rfl⟩ : ∃ m, w = m + 1 := ⟨w - 1, by omega⟩
      have q3 : (4 : Int32) * nI H + 3 = nI (4 * H + 3) := by rw [← nI_add, ← pk_mul]; rfl
      refine nm_r (nI_1 _) (nm_r (nI_pred _) ⟨pk_in (4 * H + 3) _ (by omega) q3, nm_r (e' := upd ev (4 * H + 3) (nI T)) (by rw [q3, nI_clamp (by omega)]) ?_⟩)
      refine ss_event (PY := fun Q u => match u with | (h_terms, h_listed, h_kept, h_waits, h_begun, h_has, h_out, b_term, b_list, b_q, b_ev, b_g, b_keptQ, b_keptEv, b_keptG, b_waiting, b_stack, b_met, b_view, b_sorted, b_breaks) => wY_send_47 Q y4 (d + 1) h_terms h_listed h_kept h_waits h_begun h_has h_out b_term b_list b_q b_ev b_g b_keptQ b_keptEv b_keptG b_waiting b_stack b_met b_view b_sorted b_breaks) (Gof := Gof) (H := H) (w := w) (bg := bg + 1) (T := T) (b_g := g) (b_ev := be) (b_waiting := wt) (b_q := bq) (h_terms := h_terms) (h_listed := h_listed) (h_kept := h_kept) (b_term := b_term) (b_list := b_list) (b_keptQ := b_keptQ) (b_keptEv := b_keptEv) (b_keptG := b_keptG) hT (by omega) (by omega) t3 t4 t5 t6 t7 t8 (fun i c' hi hc => ?_) t10 (t9 0 0 (by omega) (by decide)) (t9 0 1 (by omega) (by decide)) (t9 0 2 (by omega) (by decide)) (fun Q h => FY Q (fun has out ystk met vw srt bk => ?_)) (fun w' lost' all' stk' aq' al' ev' bq' be' g' wt' tp2 FY2 => ?_)
      · have := t9 (i + 1) c' (by omega) hc
        rw [show 4 * (H + 1 + i) + c' = 4 * (H + (i + 1)) + c' by omega, show 3 * (bg + 1 + i) + c' = 3 * (bg + (i + 1)) + c' by omega]
        exact this
      · have r0 : (3 : Int32) * nI bg = nI (3 * bg) := by rw [← pk_mul]; rfl
        have r1 : nI (3 * bg) + 1 = nI (3 * bg + 1) := nI_add _ 1
        have r2 : nI (3 * bg) + 2 = nI (3 * bg + 2) := nI_add _ 2
        rw [wY_send_47]
        refine br_f (nI_ge (by omega) (by omega)) (nm_r (nI_1 _) (nm_r r0 ?_))
        rw [r1, r2, nI_clamp (by omega), nI_clamp (by omega), nI_clamp (by omega)]
        refine ⟨vp_in_nI (by omega) (by omega), vp_in_nI (by omega) (by omega), vp_in_nI (by omega) (by omega), ?_⟩
        have := h has out ystk met vw srt bk
        rw [show bg + 1 + w = bg + (w + 1) by omega] at this
        exact this
      · exact ih (H + 1) w' (bg + 1) lost' all' stk' aq' al' ev' bq' be' g' wt' (by omega) tp2 FY2 n (by omega)
end
end
section
/-! the relation of the two states -/
def ie_t (xt yt : Int32) (op va term : Nat → Int32) : Prop :=
  ∃ n, xt = nI n ∧ yt = nI n ∧ n ≤ 12 ∧ ∀ j, j < n → (∃ o, o ≤ 13 ∧ op j = nI o ∧ term (2 * j) = nI o) ∧ va j = term (2 * j + 1)
def ie_cond (cd ar ln li : Nat → Int32) (c : Nat) : Prop :=
  ∃ n m, ln c = nI n ∧ n ≤ 12 ∧ (∀ i, i < n → ∃ o, o ≤ 33 ∧ cd (12 * c + i) = nI o) ∧ li (25 * c) = nI m ∧ m ≤ 12 ∧ (∀ i, i < m → ∃ o, o ≤ 13 ∧ li (25 * c + 1 + 2 * i) = nI o)
    ∧ ∀ fe, ∃ v, ec_run fe (fun i => cd (12 * c + i)) (fun i => ar (12 * c + i)) n = some [v] ∧ ec_run fe (fun i => li (25 * c + 1 + 2 * i)) (fun i => li (25 * c + 2 + 2 * i)) m = some [v]
def ie_c (xc yc : Int32) (cd ar ln li : Nat → Int32) : Prop := ∃ C, xc = nI C ∧ yc = nI C ∧ C ≤ 3 ∧ ∀ c, c < C → ie_cond cd ar ln li c
def ie_b (cd : Nat → Int32) : Prop := ∀ j, vp_nar .byte (cd j) = cd j
def es_core (B : Nat) (hp lost tme all : Int32) (aq cd ar al ev bq be g : Nat → Int32) : Prop :=
  ∃ H T, hp = nI H ∧ g 0 = nI H ∧ H ≤ 64 ∧ tme = nI T ∧ g 2 = nI T ∧ T ≤ B ∧ g 1 = lost ∧ g 3 = all ∧ (∀ j, j < 4 * H → be j = ev j) ∧ es_tms ev H T ∧ es_sl ev cd ar T (fun _ => H) aq al bq
theorem es_core_up {B B' : Nat} {hp lost tme all : Int32} {aq cd ar al ev bq be g : Nat → Int32} (h : B ≤ B') (c : es_core B hp lost tme all aq cd ar al ev bq be g) : es_core B' hp lost tme all aq cd ar al ev bq be g := by
  obtain ⟨H, T, a1, a2, a3, a4, a5, a6, a7⟩ := c
  exact ⟨H, T, a1, a2, a3, a4, a5, by omega, a7⟩
def i_Rel (k : Nat) (u : SX) (v : SY) : Prop :=
  match u with
  | (f_terms, f_conditions, f_happened, f_waiting, f_lost, f_time, f_all, f_oldHappened, f_oldLost, f_oldTime, f_oldAll, f_kept, a_termOp, a_termValue, a_askedCode, a_code, a_oldCode, a_askedArg, a_arg, a_oldArg, a_askedLength, a_stack, a_question, a_oldQuestion, a_list, a_oldList, a_event, a_oldEvent) => match v with
    | (h_terms, h_listed, h_kept, h_waits, h_begun, h_has, h_out, b_term, b_list, b_q, b_ev, b_g, b_keptQ, b_keptEv, b_keptG, b_waiting, b_stack, b_met, b_view, b_sorted, b_breaks) => ie_t f_terms h_terms a_termOp a_termValue b_term ∧ ie_c f_conditions h_listed a_askedCode a_askedArg a_askedLength b_list ∧ ie_b a_askedCode ∧ ie_b a_code ∧ ie_b a_oldCode ∧ f_waiting = 0 ∧ f_kept = h_kept
      ∧ es_core (100 * k) f_happened f_lost f_time f_all a_question a_code a_arg a_list a_event b_q b_ev b_g ∧ es_core (100 * k) f_oldHappened f_oldLost f_oldTime f_oldAll a_oldQuestion a_oldCode a_oldArg a_oldList a_oldEvent b_keptQ b_keptEv b_keptG
theorem i_up {k : Nat} {u : SX} {v : SY} (h : i_Rel k u v) : i_Rel (k + 6) u v := by
  obtain ⟨f_terms, f_conditions, f_happened, f_waiting, f_lost, f_time, f_all, f_oldHappened, f_oldLost, f_oldTime, f_oldAll, f_kept, a_termOp, a_termValue, a_askedCode, a_code, a_oldCode, a_askedArg, a_arg, a_oldArg, a_askedLength, a_stack, a_question, a_oldQuestion, a_list, a_oldList, a_event, a_oldEvent⟩ := u
  obtain ⟨h_terms, h_listed, h_kept, h_waits, h_begun, h_has, h_out, b_term, b_list, b_q, b_ev, b_g, b_keptQ, b_keptEv, b_keptG, b_waiting, b_stack, b_met, b_view, b_sorted, b_breaks⟩ := v
  obtain ⟨a1, a2, a3, a4, a5, a6, a7, a8, a9⟩ := h
  exact ⟨a1, a2, a3, a4, a5, a6, a7, es_core_up (by omega) a8, es_core_up (by omega) a9⟩
theorem i_vc0 : wpX_init (fun u => wpY_init (fun v => i_Rel 0 u v)) := by
  have c0 : es_core (100 * 0) 0 0 0 0 (fun _ => 0) (fun _ => 0) (fun _ => 0) (fun _ => 0) (fun _ => 0) (fun _ => 0) (fun _ => 0) (fun _ => 0) :=
    ⟨0, 0, rfl, rfl, by decide, rfl, rfl, by decide, rfl, rfl, fun _ _ => rfl, ⟨fun k hk => by omega, fun a b _ hb => by omega⟩, fun t _ => ⟨fun _ => 0, fun _ => 0, fun _ => 0, fun _ _ => rfl, fun _ _ => rfl, fun _ _ => rfl, rfl, Or.inl rfl⟩⟩
  exact ⟨⟨0, rfl, rfl, by decide, fun j hj => by omega⟩, ⟨0, rfl, rfl, by decide, fun c hc => by omega⟩, fun _ => rfl, fun _ => rfl, fun _ => rfl, rfl, rfl, c0, c0⟩
theorem i_vc_drop {k : Nat} {u : SX} {v : SY} (I : i_Rel k u v) (hk : k + 6 ≤ 3072) : wpX_drop (fun r u' => wpY_drop (fun r' v' => r' = r ∧ i_Rel (k + 6) u' v') v) u := by
  have I := i_up I
  obtain ⟨f_terms, f_conditions, f_happened, f_waiting, f_lost, f_time, f_all, f_oldHappened, f_oldLost, f_oldTime, f_oldAll, f_kept, a_termOp, a_termValue, a_askedCode, a_code, a_oldCode, a_askedArg, a_arg, a_oldArg, a_askedLength, a_stack, a_question, a_oldQuestion, a_list, a_oldList, a_event, a_oldEvent⟩ := u
  obtain ⟨h_terms, h_listed, h_kept, h_waits, h_begun, h_has, h_out, b_term, b_list, b_q, b_ev, b_g, b_keptQ, b_keptEv, b_keptG, b_waiting, b_stack, b_met, b_view, b_sorted, b_breaks⟩ := v
  obtain ⟨⟨n, n1, n2, n3, n4⟩, ⟨C, d1, d2, d3, d4⟩, a3, a4, a5, a6, a7, a8, a9⟩ := I
  intro x ex y ey
  refine ⟨by rw [ex, ey, n1, n2, d1, d2], ⟨0, rfl, rfl, by decide, fun j hj => by omega⟩, ⟨0, rfl, rfl, by decide, fun c hc => by omega⟩, a3, a4, a5, a6, a7, a8, a9⟩
theorem es_core_g {B : Nat} {hp lost tme all : Int32} {aq cd ar al ev bq be g : Nat → Int32} (c : es_core B hp lost tme all aq cd ar al ev bq be g) : g 0 = hp ∧ g 1 = lost ∧ g 2 = tme ∧ g 3 = all := by
  obtain ⟨H, T, a1, a2, a3, a4, a5, a6, a7, a8, a9⟩ := c
  exact ⟨a2.trans a1.symm, a7, a5.trans a4.symm, a8⟩
theorem i_vc_state {k : Nat} {u : SX} {v : SY} (I : i_Rel k u v) (hk : k + 6 ≤ 3072) (v1 : Int32) : wpX_state (fun r => wpY_state (fun r' => r' = r ∧ i_Rel (k + 6) u v) v v1) u v1 := by
  have I' := i_up I
  obtain ⟨f_terms, f_conditions, f_happened, f_waiting, f_lost, f_time, f_all, f_oldHappened, f_oldLost, f_oldTime, f_oldAll, f_kept, a_termOp, a_termValue, a_askedCode, a_code, a_oldCode, a_askedArg, a_arg, a_oldArg, a_askedLength, a_stack, a_question, a_oldQuestion, a_list, a_oldList, a_event, a_oldEvent⟩ := u
  obtain ⟨h_terms, h_listed, h_kept, h_waits, h_begun, h_has, h_out, b_term, b_list, b_q, b_ev, b_g, b_keptQ, b_keptEv, b_keptG, b_waiting, b_stack, b_met, b_view, b_sorted, b_breaks⟩ := v
  obtain ⟨a1, a2, a3, a4, a5, a6, a7, a8, a9⟩ := I
  obtain ⟨g0, g1, g2, g3⟩ := es_core_g a8
  have J : ∀ r : Int32, r = r ∧ i_Rel (k + 6) (f_terms, f_conditions, f_happened, f_waiting, f_lost, f_time, f_all, f_oldHappened, f_oldLost, f_oldTime, f_oldAll, f_kept, a_termOp, a_termValue, a_askedCode, a_code, a_oldCode, a_askedArg, a_arg, a_oldArg, a_askedLength, a_stack, a_question, a_oldQuestion, a_list, a_oldList, a_event, a_oldEvent) (h_terms, h_listed, h_kept, h_waits, h_begun, h_has, h_out, b_term, b_list, b_q, b_ev, b_g, b_keptQ, b_keptEv, b_keptG, b_waiting, b_stack, b_met, b_view, b_sorted, b_breaks) := fun r => ⟨rfl, I'⟩
  by_cases n : v1 < 0
  · exact br_t n (br_t n (J _))
  · by_cases m : 3 < v1
    · exact br_f n (br_t m (br_f n (br_f (Int32.not_le.mpr m) (J _))))
    · have m' : v1 ≤ 3 := Int32.not_lt.mp m
      obtain ⟨j, hj, rfl⟩ := nI_of2 (M := 3) (n := 3) (by decide) n m'
      have hin : vp_in (nI j) 4 := vp_in_nI (by omega) (by omega)
      have hc : (nI j).toNatClampNeg = j := nI_clamp (by omega)
      refine br_f n (br_f m ?_)
      rcases (show j = 0 ∨ j = 1 ∨ j = 2 ∨ j = 3 by omega) with rfl | rfl | rfl | rfl
      · exact br_t rfl (br_f n (br_t m' ⟨hin, by rw [hc]; exact g0, I'⟩))
      · exact br_f (by decide) (br_t rfl (br_f n (br_t m' ⟨hin, by rw [hc]; exact g1, I'⟩)))
      · exact br_f (by decide) (br_f (by decide) (br_t rfl (br_f n (br_t m' ⟨hin, by rw [hc]; exact g2, I'⟩))))
      · exact br_f (by decide) (br_f (by decide) (br_f (by decide) (br_t rfl (br_f n (br_t m' ⟨hin, by rw [hc]; exact g3, I'⟩)))))
theorem es_tms_T {E : Nat → Int32} {H T T' : Nat} (h : T ≤ T') (a : es_tms E H T) : es_tms E H T' := ⟨fun k hk => ⟨(a.1 k hk).1, by have := (a.1 k hk).2; omega⟩, a.2⟩
theorem es_sl_T {E cd ar aq al bq : Nat → Int32} {T T' : Nat} {hf : Nat → Nat} (h : T ≤ T') (sl : es_sl E cd ar T hf aq al bq) : es_sl E cd ar T' hf aq al bq := by
  intro t ht
  obtain ⟨q, l, v, a, b, c, h0, d⟩ := sl t ht
  refine ⟨q, l, v, a, b, c, h0, ?_⟩
  rcases d with d | ⟨d1, d2, d3⟩
  · exact Or.inl d
  · exact Or.inr ⟨d1, d2, es_body_T h d3⟩
theorem i_vc_advance {k : Nat} {u : SX} {v : SY} (I : i_Rel k u v) (hk : k + 6 ≤ 3072) (v1 : Int32) : wpX_advance (fun r u' => wpY_advance (fun r' v' => r' = r ∧ i_Rel (k + 6) u' v') v v1) u v1 := by
  have I' := i_up I
  obtain ⟨f_terms, f_conditions, f_happened, f_waiting, f_lost, f_time, f_all, f_oldHappened, f_oldLost, f_oldTime, f_oldAll, f_kept, a_termOp, a_termValue, a_askedCode, a_code, a_oldCode, a_askedArg, a_arg, a_oldArg, a_askedLength, a_stack, a_question, a_oldQuestion, a_list, a_oldList, a_event, a_oldEvent⟩ := u
  obtain ⟨h_terms, h_listed, h_kept, h_waits, h_begun, h_has, h_out, b_term, b_list, b_q, b_ev, b_g, b_keptQ, b_keptEv, b_keptG, b_waiting, b_stack, b_met, b_view, b_sorted, b_breaks⟩ := v
  obtain ⟨a1, a2, a3, a4, a5, a6, a7, a8, a9⟩ := I
  obtain ⟨H, T, b1, b2, b3, b4, b5, b6, b7, b8, b9, b10, b11⟩ := a8
  by_cases n : v1 < 0
  · exact br_t n (br_t rfl (br_t n ⟨rfl, I'⟩))
  · by_cases m : 100 < v1
    · exact br_f n (br_t m (br_t rfl (br_f n (br_f (Int32.not_le.mpr m) ⟨rfl, I'⟩))))
    · have m' : v1 ≤ 100 := Int32.not_lt.mp m
      obtain ⟨j, hj, rfl⟩ := nI_of2 (M := 100) (n := 100) (by decide) n m'
      subst b4
      refine br_f n (br_f m (br_f (by decide) (nm_r (nI_add _ _) (br_f n (br_t m' (nm_e ⟨?_, ?_⟩))))))
      · show b_g 2 + nI j = nI (T + j)
        rw [b5, nI_add]
      · refine ⟨a1, a2, a3, a4, a5, a6, a7, ⟨H, T + j, b1, b2, b3, rfl, ?_, by omega, b7, b8, b9, es_tms_T (by omega) b10, es_sl_T (by omega) b11⟩, es_core_up (by omega) a9⟩
        show b_g 2 + nI j = nI (T + j)
        rw [b5, nI_add]
end
section
/-! slots and ranges as arguments; giving, remove, given, output -/
theorem ie_rng {p : Int32} {a b : Nat} (ha : a < 2 ^ 31) (hb : b < 2 ^ 31) (h1 : ¬ p < nI a) (h2 : ¬ nI b < p) : ∃ j, a ≤ j ∧ j ≤ b ∧ p = nI j := by
  have hn : ¬ p < 0 := fun z => h1 (Int32.lt_of_lt_of_le z (nI_pos' ha))
  obtain ⟨j, hj, rfl⟩ := nI_of hn
  rw [nI_ltI hj ha] at h1
  rw [nI_ltI hb hj] at h2
  exact ⟨j, by omega, by omega, rfl⟩
theorem ie_ix (p : Int32) : (p < 0 ∨ nI 6 ≤ p) ∨ ∃ s, s < 6 ∧ p = nI s := by
  rcases pk_ix p (n := 6) (by decide) with h | h | h
  · exact Or.inl (Or.inl h)
  · exact Or.inl (Or.inr h)
  · exact Or.inr h
section
variable {f_terms f_conditions f_happened f_waiting f_lost f_time f_all f_oldHappened f_oldLost f_oldTime f_oldAll f_kept : Int32} {a_termOp a_termValue a_askedCode a_code a_oldCode a_askedArg a_arg a_oldArg a_askedLength a_stack a_question a_oldQuestion a_list a_oldList a_event a_oldEvent : Nat → Int32} {s : Nat} {p : Int32} {post : Int32 → Prop}
theorem xi_bad (h : p < 0 ∨ nI 6 ≤ p) (hp : post 0) : wpX_isSlot post (f_terms, f_conditions, f_happened, f_waiting, f_lost, f_time, f_all, f_oldHappened, f_oldLost, f_oldTime, f_oldAll, f_kept, a_termOp, a_termValue, a_askedCode, a_code, a_oldCode, a_askedArg, a_arg, a_oldArg, a_askedLength, a_stack, a_question, a_oldQuestion, a_list, a_oldList, a_event, a_oldEvent) p := by
  unfold wpX_isSlot wpX_within
  dsimp only
  rcases h with h | h
  · exact br_t h ⟨rfl, hp⟩
  · have n : ¬ p < 0 := fun z => by
      have := Int32.lt_of_le_of_lt h z
      exact absurd this (by decide)
    have m : 5 < p := Int32.lt_of_lt_of_le (show (5 : Int32) < nI 6 by decide) h
    exact br_f n (br_t m ⟨rfl, hp⟩)
theorem xi_slot (hs : s < 6) (hp : post 1) : wpX_isSlot post (f_terms, f_conditions, f_happened, f_waiting, f_lost, f_time, f_all, f_oldHappened, f_oldLost, f_oldTime, f_oldAll, f_kept, a_termOp, a_termValue, a_askedCode, a_code, a_oldCode, a_askedArg, a_arg, a_oldArg, a_askedLength, a_stack, a_question, a_oldQuestion, a_list, a_oldList, a_event, a_oldEvent) (nI s) := by
  unfold wpX_isSlot wpX_within
  dsimp only
  exact br_f (nI_pos (by omega)) (br_f (nI_nlt (a := 5) (by omega) (by decide)) ⟨rfl, hp⟩)
theorem xi_there_bad (h : p < 0 ∨ nI 6 ≤ p) (hp : post 0) : wpX_there post (f_terms, f_conditions, f_happened, f_waiting, f_lost, f_time, f_all, f_oldHappened, f_oldLost, f_oldTime, f_oldAll, f_kept, a_termOp, a_termValue, a_askedCode, a_code, a_oldCode, a_askedArg, a_arg, a_oldArg, a_askedLength, a_stack, a_question, a_oldQuestion, a_list, a_oldList, a_event, a_oldEvent) p := by
  unfold wpX_there
  exact xi_bad h (br_t rfl hp)
theorem xi_there0 (hs : s < 6) (h : a_question (64 * s) = 0) (hp : post 0) : wpX_there post (f_terms, f_conditions, f_happened, f_waiting, f_lost, f_time, f_all, f_oldHappened, f_oldLost, f_oldTime, f_oldAll, f_kept, a_termOp, a_termValue, a_askedCode, a_code, a_oldCode, a_askedArg, a_arg, a_oldArg, a_askedLength, a_stack, a_question, a_oldQuestion, a_list, a_oldList, a_event, a_oldEvent) (nI s) := by
  have q : (64 : Int32) * nI s + 0 = nI (64 * s) := by rw [Int32.add_zero, ← pk_mul]; rfl
  unfold wpX_there
  refine xi_slot hs (br_f (by decide) ?_)
  rw [q, nI_clamp (by omega)]
  exact ⟨vp_in_nI (by omega) (by omega), br_t h hp⟩
theorem xi_there1 (hs : s < 6) (h : ¬ a_question (64 * s) = 0) (hp : post 1) : wpX_there post (f_terms, f_conditions, f_happened, f_waiting, f_lost, f_time, f_all, f_oldHappened, f_oldLost, f_oldTime, f_oldAll, f_kept, a_termOp, a_termValue, a_askedCode, a_code, a_oldCode, a_askedArg, a_arg, a_oldArg, a_askedLength, a_stack, a_question, a_oldQuestion, a_list, a_oldList, a_event, a_oldEvent) (nI s) := by
  have q : (64 : Int32) * nI s + 0 = nI (64 * s) := by rw [Int32.add_zero, ← pk_mul]; rfl
  unfold wpX_there
  refine xi_slot hs (br_f (by decide) ?_)
  rw [q, nI_clamp (by omega)]
  exact ⟨vp_in_nI (by omega) (by omega), br_f h hp⟩
end
section
variable {h_terms h_listed h_kept h_waits h_begun h_has h_out : Int32} {b_term b_list b_q b_ev b_g b_keptQ b_keptEv b_keptG b_waiting b_stack b_met b_view b_sorted b_breaks : Nat → Int32} {s : Nat} {p : Int32} {post : Int32 → Prop}
theorem yi_bad (h : p < 0 ∨ nI 6 ≤ p) (hp : post 0) : wpY_isSlot post (h_terms, h_listed, h_kept, h_waits, h_begun, h_has, h_out, b_term, b_list, b_q, b_ev, b_g, b_keptQ, b_keptEv, b_keptG, b_waiting, b_stack, b_met, b_view, b_sorted, b_breaks) p := by
  unfold wpY_isSlot
  dsimp only
  rcases h with h | h
  · exact br_t h hp
  · have n : ¬ p < 0 := fun z => by
      have := Int32.lt_of_le_of_lt h z
      exact absurd this (by decide)
    exact br_f n (br_t h hp)
theorem yi_slot (hs : s < 6) (hp : post 1) : wpY_isSlot post (h_terms, h_listed, h_kept, h_waits, h_begun, h_has, h_out, b_term, b_list, b_q, b_ev, b_g, b_keptQ, b_keptEv, b_keptG, b_waiting, b_stack, b_met, b_view, b_sorted, b_breaks) (nI s) := by
  unfold wpY_isSlot
  dsimp only
  exact br_f (nI_pos (by omega)) (br_f (nI_ge (b := 6) (by omega) (by decide)) hp)
end
/-- a change of one question keeps the rest -/
theorem es_core_set {B H T : Nat} {hp lost tme all : Int32} {aq cd ar al ev bq be g qs ls y : Nat → Int32} {s : Nat} (hs : s < 6) (h1 : hp = nI H) (h2 : g 0 = nI H) (h3 : H ≤ 64) (h4 : tme = nI T) (h5 : g 2 = nI T) (h6 : T ≤ B) (h7 : g 1 = lost) (h8 : g 3 = all) (h9 : ∀ j, j < 4 * H → be j = ev j) (h10 : es_tms ev H T)
    (h11 : es_sl ev cd ar T (fun _ => H) aq al bq) (hn : es_slot ev cd ar s H T qs ls y) : es_core B hp lost tme all (ed_sp aq (64 * s) 64 qs) cd ar (ed_sp al (256 * s) 256 ls) ev (ed_sp bq (100 * s) 100 y) be g :=
  ⟨H, T, h1, h2, h3, h4, h5, h6, h7, h8, h9, h10, es_sl_set h11 hs (fun _ _ _ => rfl) hn⟩
theorem i_vc_giving {k : Nat} {u : SX} {v : SY} (I : i_Rel k u v) (hk : k + 6 ≤ 3072) (v1 : Int32) (v2 : Int32) (v3 : Int32) (v4 : Int32) : wpX_giving (fun r u' => wpY_giving (fun r' v' => r' = r ∧ i_Rel (k + 6) u' v') v v1 v2 v3 v4) u v1 v2 v3 v4 := by
  have I := i_up I
  obtain ⟨f_terms, f_conditions, f_happened, f_waiting, f_lost, f_time, f_all, f_oldHappened, f_oldLost, f_oldTime, f_oldAll, f_kept, a_termOp, a_termValue, a_askedCode, a_code, a_oldCode, a_askedArg, a_arg, a_oldArg, a_askedLength, a_stack, a_question, a_oldQuestion, a_list, a_oldList, a_event, a_oldEvent⟩ := u
  obtain ⟨h_terms, h_listed, h_kept, h_waits, h_begun, h_has, h_out, b_term, b_list, b_q, b_ev, b_g, b_keptQ, b_keptEv, b_keptG, b_waiting, b_stack, b_met, b_view, b_sorted, b_breaks⟩ := v
  have I' := I
  obtain ⟨a1, a2, a3, a4, a5, a6, a7, ⟨H, T, b1, b2, b3, b4, b5, b6, b7, b8, b9, b10, b11⟩, a9⟩ := I
  unfold wpX_giving wpY_giving
  rcases ie_ix v1 with h | ⟨s, hs, rfl⟩
  · exact xi_there_bad h (br_t rfl (yi_bad h (br_t rfl ⟨rfl, I'⟩)))
  · obtain ⟨qs, ls, y, hq, hl, hy, h0, sl0⟩ := b11 s hs
    have e1 := ed_sp_of (a := a_question) (B := 64 * s) (n := 64) hq
    have e2 := ed_sp_of (a := a_list) (B := 256 * s) (n := 256) hl
    have e3 := ed_sp_of (a := b_q) (B := 100 * s) (n := 100) hy
    have x0 : a_question (64 * s) = qs 0 := hq 0 (by decide)
    have y0 : b_q (100 * s) = y 0 := hy 0 (by decide)
    have r0 : (100 : Int32) * nI s = nI (100 * s) := by rw [← pk_mul]; rfl
    have rc : (nI (100 * s)).toNatClampNeg = 100 * s := nI_clamp (by omega)
    have ri : vp_in (nI (100 * s)) 600 := vp_in_nI (by omega) (by omega)
    by_cases z : qs 0 = 0
    · refine xi_there0 hs (x0.trans z) (br_t rfl (yi_slot hs (br_f (by decide) ?_)))
      rw [r0, rc]
      exact ⟨ri, br_t (y0.trans (h0.symm.trans z)) ⟨rfl, I'⟩⟩
    · have zx : ¬ a_question (64 * s) = 0 := by rw [x0]; exact z
      have zy : ¬ b_q (100 * s) = 0 := by rw [y0, ← h0]; exact z
      refine xi_there1 hs zx (br_f (by decide) ?_)
      unfold wpX_within
      by_cases c1 : v3 < 1
      · refine br_t c1 (br_t rfl (yi_slot hs (br_f (by decide) ?_)))
        rw [r0, rc]
        exact ⟨ri, br_f zy (br_t c1 ⟨rfl, I'⟩)⟩
      by_cases c2 : 8 < v3
      · refine br_f c1 (br_t c2 (br_t rfl (yi_slot hs (br_f (by decide) ?_))))
        rw [r0, rc]
        exact ⟨ri, br_f zy (br_f c1 (br_t c2 ⟨rfl, I'⟩))⟩
      refine br_f c1 (br_f c2 (br_f (by decide) ?_))
      by_cases c3 : v4 < 0
      · refine br_t c3 (br_t rfl (yi_slot hs (br_f (by decide) ?_)))
        rw [r0, rc]
        exact ⟨ri, br_f zy (br_f c1 (br_f c2 (br_t c3 ⟨rfl, I'⟩)))⟩
      by_cases c4 : 4 < v4
      · refine br_f c3 (br_t c4 (br_t rfl (yi_slot hs (br_f (by decide) ?_))))
        rw [r0, rc]
        exact ⟨ri, br_f zy (br_f c1 (br_f c2 (br_f c3 (br_f (Int32.not_le.mpr c4) ⟨rfl, I'⟩))))⟩
      obtain ⟨r, r1, r2, rfl⟩ := ie_rng (a := 1) (b := 8) (by decide) (by decide) c1 c2
      obtain ⟨ro, ro1, ro2, rfl⟩ := ie_rng (a := 0) (b := 4) (by decide) (by decide) c3 c4
      refine br_f c3 (br_f c4 (br_f (by decide) ?_))
      rw [← e1]
      simp (disch := omega) only [ed_lit, nI_add, pk_mul, pk_sub, Nat.add_assoc, Nat.add_zero, Nat.zero_add, Nat.reduceAdd, Nat.reduceSub, Nat.reduceMul, Nat.add_sub_cancel, ed_asub, ed_in, nI_clamp, true_and, and_true, ed_sp_get, ed_sp_get0, ed_sp_upd, ed_sp_upd0, forall_eq, forall_const, true_implies, false_implies, not_true_eq_false, not_false_eq_true, and_self]
      refine yi_slot hs (br_f (by decide) ?_)
      refine br_f zy (br_f c1 (br_f c2 (br_f c3 (br_t (Int32.not_lt.mp c4) ?_))))
      rw [← e3]
      simp (disch := omega) only [ed_sp_get, ed_sp_get0, ed_sp_upd, ed_sp_upd0]
      rcases sl0 with z2 | ⟨gv, ct, B⟩
      · exact absurd z2 z
      · have core := es_core_set (aq := a_question) (al := a_list) (bq := b_q) (qs := upd (upd (upd qs 7 v2) 8 (nI r)) 9 (nI ro)) (ls := ls) (y := upd (upd (upd y 6 v2) 7 (nI r)) 8 (nI ro)) hs b1 b2 b3 b4 b5 b6 b7 b8 b9 b10 b11
          ⟨h0, Or.inr ⟨⟨rfl, ⟨r, r1, r2, rfl, rfl⟩, ro, ro2, rfl, rfl⟩, ?_, es_body_c (fun j hj => ?_) (fun j hj => ?_) B⟩⟩
        · rw [e2] at core
          exact ⟨a1, a2, a3, a4, a5, a6, a7, core, a9⟩
        · obtain ⟨KK, G, k1, k2, k3, k4, k5, k6, k7⟩ := ct
          refine ⟨KK, G, k1, k2, k3, k4, k5, k6, fun j u v => ?_⟩
          rw [pk_un (by omega), pk_un (by omega), pk_un (by omega), k7 j u v, pk_un (by omega), pk_un (by omega), pk_un (by omega)]
        · rw [pk_un (by omega), pk_un (by omega), pk_un (by omega)]
        · rw [pk_un (by omega), pk_un (by omega), pk_un (by omega)]
theorem i_vc_remove {k : Nat} {u : SX} {v : SY} (I : i_Rel k u v) (hk : k + 6 ≤ 3072) (v1 : Int32) : wpX_remove (fun r u' => wpY_remove (fun r' v' => r' = r ∧ i_Rel (k + 6) u' v') v v1) u v1 := by
  have I := i_up I
  obtain ⟨f_terms, f_conditions, f_happened, f_waiting, f_lost, f_time, f_all, f_oldHappened, f_oldLost, f_oldTime, f_oldAll, f_kept, a_termOp, a_termValue, a_askedCode, a_code, a_oldCode, a_askedArg, a_arg, a_oldArg, a_askedLength, a_stack, a_question, a_oldQuestion, a_list, a_oldList, a_event, a_oldEvent⟩ := u
  obtain ⟨h_terms, h_listed, h_kept, h_waits, h_begun, h_has, h_out, b_term, b_list, b_q, b_ev, b_g, b_keptQ, b_keptEv, b_keptG, b_waiting, b_stack, b_met, b_view, b_sorted, b_breaks⟩ := v
  have I' := I
  obtain ⟨a1, a2, a3, a4, a5, a6, a7, ⟨H, T, b1, b2, b3, b4, b5, b6, b7, b8, b9, b10, b11⟩, a9⟩ := I
  unfold wpX_remove wpY_remove
  rcases ie_ix v1 with h | ⟨s, hs, rfl⟩
  · exact xi_there_bad h (br_t rfl (yi_bad h (br_t rfl ⟨rfl, I'⟩)))
  · obtain ⟨qs, ls, y, hq, hl, hy, h0, sl0⟩ := b11 s hs
    have e1 := ed_sp_of (a := a_question) (B := 64 * s) (n := 64) hq
    have e2 := ed_sp_of (a := a_list) (B := 256 * s) (n := 256) hl
    have e3 := ed_sp_of (a := b_q) (B := 100 * s) (n := 100) hy
    have x0 : a_question (64 * s) = qs 0 := hq 0 (by decide)
    have y0 : b_q (100 * s) = y 0 := hy 0 (by decide)
    have r0 : (100 : Int32) * nI s = nI (100 * s) := by rw [← pk_mul]; rfl
    have rc : (nI (100 * s)).toNatClampNeg = 100 * s := nI_clamp (by omega)
    have ri : vp_in (nI (100 * s)) 600 := vp_in_nI (by omega) (by omega)
    by_cases z : qs 0 = 0
    · refine xi_there0 hs (x0.trans z) (br_t rfl (yi_slot hs (br_f (by decide) ?_)))
      rw [r0, rc]
      exact ⟨ri, br_t (y0.trans (h0.symm.trans z)) ⟨rfl, I'⟩⟩
    · have zx : ¬ a_question (64 * s) = 0 := by rw [x0]; exact z
      have zy : ¬ b_q (100 * s) = 0 := by rw [y0, ← h0]; exact z
      refine xi_there1 hs zx (br_f (by decide) ?_)
      rw [← e1]
      simp (disch := omega) only [ed_lit, nI_add, pk_mul, pk_sub, Nat.add_assoc, Nat.add_zero, Nat.zero_add, Nat.reduceAdd, Nat.reduceSub, Nat.reduceMul, Nat.add_sub_cancel, ed_asub, ed_in, nI_clamp, true_and, and_true, ed_sp_get, ed_sp_get0, ed_sp_upd, ed_sp_upd0, forall_eq, forall_const, true_implies, false_implies, not_true_eq_false, not_false_eq_true, and_self]
      refine yi_slot hs (br_f (by decide) ?_)
      refine br_f zy ?_
      rw [← e3]
      simp (disch := omega) only [ed_sp_get, ed_sp_get0, ed_sp_upd, ed_sp_upd0]
      have core := es_core_set (aq := a_question) (al := a_list) (bq := b_q) (qs := upd qs 0 0) (ls := ls) (y := upd y 0 0) hs b1 b2 b3 b4 b5 b6 b7 b8 b9 b10 b11 ⟨rfl, Or.inl rfl⟩
      rw [e2] at core
      exact ⟨a1, a2, a3, a4, a5, a6, a7, core, a9⟩
end
section
/-! given, output -/
theorem i_vc_given {k : Nat} {u : SX} {v : SY} (I : i_Rel k u v) (hk : k + 6 ≤ 3072) (v1 : Int32) (v2 : Int32) : wpX_given (fun r => wpY_given (fun r' => r' = r ∧ i_Rel (k + 6) u v) v v1 v2) u v1 v2 := by
  have I := i_up I
  obtain ⟨f_terms, f_conditions, f_happened, f_waiting, f_lost, f_time, f_all, f_oldHappened, f_oldLost, f_oldTime, f_oldAll, f_kept, a_termOp, a_termValue, a_askedCode, a_code, a_oldCode, a_askedArg, a_arg, a_oldArg, a_askedLength, a_stack, a_question, a_oldQuestion, a_list, a_oldList, a_event, a_oldEvent⟩ := u
  obtain ⟨h_terms, h_listed, h_kept, h_waits, h_begun, h_has, h_out, b_term, b_list, b_q, b_ev, b_g, b_keptQ, b_keptEv, b_keptG, b_waiting, b_stack, b_met, b_view, b_sorted, b_breaks⟩ := v
  have I' := I
  obtain ⟨a1, a2, a3, a4, a5, a6, a7, ⟨H, T, b1, b2, b3, b4, b5, b6, b7, b8, b9, b10, b11⟩, a9⟩ := I
  unfold wpX_given wpY_given
  rcases ie_ix v1 with h | ⟨s, hs, rfl⟩
  · exact xi_there_bad h (br_t rfl (yi_bad h (br_t rfl ⟨rfl, I'⟩)))
  · obtain ⟨qs, ls, y, hq, hl, hy, h0, sl0⟩ := b11 s hs
    have x0 : a_question (64 * s) = qs 0 := hq 0 (by decide)
    have y0 : b_q (100 * s) = y 0 := hy 0 (by decide)
    have r0 : (100 : Int32) * nI s = nI (100 * s) := by rw [← pk_mul]; rfl
    have rc : (nI (100 * s)).toNatClampNeg = 100 * s := nI_clamp (by omega)
    have ri : vp_in (nI (100 * s)) 600 := vp_in_nI (by omega) (by omega)
    have ry : ∀ c, c < 100 → vp_in ((100 : Int32) * nI s + nI c) 600 ∧ b_q ((100 : Int32) * nI s + nI c).toNatClampNeg = y c := by
      intro c hc
      rw [show (100 : Int32) * nI s + nI c = nI (100 * s + c) by rw [← nI_add, ← pk_mul]; rfl, nI_clamp (by omega), hy c hc]
      exact ⟨vp_in_nI (by omega) (by omega), rfl⟩
    have rx : ∀ c, c < 64 → vp_in ((64 : Int32) * nI s + nI c) 384 ∧ a_question ((64 : Int32) * nI s + nI c).toNatClampNeg = qs c := by
      intro c hc
      rw [show (64 : Int32) * nI s + nI c = nI (64 * s + c) by rw [← nI_add, ← pk_mul]; rfl, nI_clamp (by omega), hq c hc]
      exact ⟨vp_in_nI (by omega) (by omega), rfl⟩
    by_cases z : qs 0 = 0
    · refine xi_there0 hs (x0.trans z) (br_t rfl (yi_slot hs (br_f (by decide) ?_)))
      rw [r0, rc]
      exact ⟨ri, br_t (y0.trans (h0.symm.trans z)) ⟨rfl, I'⟩⟩
    · have zx : ¬ a_question (64 * s) = 0 := by rw [x0]; exact z
      have zy : ¬ b_q (100 * s) = 0 := by rw [y0, ← h0]; exact z
      have zi : vp_in ((100 : Int32) * nI s) 600 := by rw [r0]; exact ri
      have zb : ¬ b_q ((100 : Int32) * nI s).toNatClampNeg = 0 := by rw [r0, rc]; exact zy
      refine xi_there1 hs zx (br_f (by decide) ?_)
      rcases sl0 with z2 | ⟨gv, ⟨KK, G, k1, k2, k3, k4, k5, k6, k7⟩, B⟩
      · exact absurd z2 z
      have k3 : KK ≤ H := k3
      unfold wpX_within
      by_cases c1 : v2 < 0
      · exact br_t c1 (br_t rfl (yi_slot hs (br_f (by decide) ⟨zi, br_f zb (br_t c1 ⟨rfl, I'⟩)⟩)))
      by_cases c2 : 1 < v2
      · exact br_f c1 (br_t c2 (br_t rfl (yi_slot hs (br_f (by decide) ⟨zi, br_f zb (br_f c1 (br_f (Int32.not_le.mpr c2) ⟨rfl, I'⟩))⟩))))
      have c2' : v2 ≤ 1 := Int32.not_lt.mp c2
      refine br_f c1 (br_f c2 (br_f (by decide) (br_c (fun c3 => ?_) (fun c3 => ?_))))
      · refine ⟨(rx 11 (by decide)).1, yi_slot hs (br_f (by decide) ⟨zi, br_f zb (br_f c1 (br_t c2' (br_t c3 ⟨(ry 11 (by decide)).1, ?_, I'⟩)))⟩)⟩
        exact (ry 11 (by decide)).2.trans (k5.trans (k4.symm.trans (rx 11 (by decide)).2.symm))
      · refine ⟨(rx 10 (by decide)).1, yi_slot hs (br_f (by decide) ⟨zi, br_f zb (br_f c1 (br_t c2' (br_f c3 ⟨(ry 10 (by decide)).1, ?_, I'⟩)))⟩)⟩
        exact (ry 10 (by decide)).2.trans (k2.trans (k1.symm.trans (rx 10 (by decide)).2.symm))
theorem i_vc_output {k : Nat} {u : SX} {v : SY} (I : i_Rel k u v) (hk : k + 6 ≤ 3072) (v1 : Int32) (v2 : Int32) : wpX_output (fun r => wpY_output (fun r' => r' = r ∧ i_Rel (k + 6) u v) v v1 v2) u v1 v2 := by
  have I := i_up I
  obtain ⟨f_terms, f_conditions, f_happened, f_waiting, f_lost, f_time, f_all, f_oldHappened, f_oldLost, f_oldTime, f_oldAll, f_kept, a_termOp, a_termValue, a_askedCode, a_code, a_oldCode, a_askedArg, a_arg, a_oldArg, a_askedLength, a_stack, a_question, a_oldQuestion, a_list, a_oldList, a_event, a_oldEvent⟩ := u
  obtain ⟨h_terms, h_listed, h_kept, h_waits, h_begun, h_has, h_out, b_term, b_list, b_q, b_ev, b_g, b_keptQ, b_keptEv, b_keptG, b_waiting, b_stack, b_met, b_view, b_sorted, b_breaks⟩ := v
  have I' := I
  obtain ⟨a1, a2, a3, a4, a5, a6, a7, ⟨H, T, b1, b2, b3, b4, b5, b6, b7, b8, b9, b10, b11⟩, a9⟩ := I
  unfold wpX_output wpY_output
  rcases ie_ix v1 with h | ⟨s, hs, rfl⟩
  · exact xi_there_bad h (br_t rfl (yi_bad h (br_t rfl ⟨rfl, I'⟩)))
  · obtain ⟨qs, ls, y, hq, hl, hy, h0, sl0⟩ := b11 s hs
    have x0 : a_question (64 * s) = qs 0 := hq 0 (by decide)
    have y0 : b_q (100 * s) = y 0 := hy 0 (by decide)
    have r0 : (100 : Int32) * nI s = nI (100 * s) := by rw [← pk_mul]; rfl
    have rc : (nI (100 * s)).toNatClampNeg = 100 * s := nI_clamp (by omega)
    have ri : vp_in (nI (100 * s)) 600 := vp_in_nI (by omega) (by omega)
    have r11 : (100 : Int32) * nI s + 11 = nI (100 * s + 11) := by rw [← nI_add, ← pk_mul]; rfl
    have x11 : (64 : Int32) * nI s + 11 = nI (64 * s + 11) := by rw [← nI_add, ← pk_mul]; rfl
    have r12 : (100 : Int32) * nI s + 12 = nI (100 * s + 12) := by rw [← nI_add, ← pk_mul]; rfl
    have x28 : (64 : Int32) * nI s + 28 = nI (64 * s + 28) := by rw [← nI_add, ← pk_mul]; rfl
    by_cases z : qs 0 = 0
    · refine xi_there0 hs (x0.trans z) (br_t rfl (yi_slot hs (br_f (by decide) ?_)))
      rw [r0, rc]
      exact ⟨ri, br_t (y0.trans (h0.symm.trans z)) ⟨rfl, I'⟩⟩
    · have zx : ¬ a_question (64 * s) = 0 := by rw [x0]; exact z
      have zy : ¬ b_q (100 * s) = 0 := by rw [y0, ← h0]; exact z
      have zi : vp_in ((100 : Int32) * nI s) 600 := by rw [r0]; exact ri
      have zb : ¬ b_q ((100 : Int32) * nI s).toNatClampNeg = 0 := by rw [r0, rc]; exact zy
      refine xi_there1 hs zx (br_f (by decide) ?_)
      rcases sl0 with z2 | ⟨gv, ⟨KK, G, k1, k2, k3, k4, k5, k6, k7⟩, B⟩
      · exact absurd z2 z
      have k3 : KK ≤ H := k3
      unfold wpX_within
      by_cases c1 : v2 < 0
      · exact br_t c1 (br_t rfl (yi_slot hs (br_f (by decide) ⟨zi, br_f zb (br_t c1 ⟨rfl, I'⟩)⟩)))
      by_cases c2 : 7 < v2
      · exact br_f c1 (br_t c2 (br_t rfl (yi_slot hs (br_f (by decide) ⟨zi, br_f zb (br_f c1 (br_t c2 ⟨rfl, I'⟩))⟩))))
      obtain ⟨j, j1, j2, rfl⟩ := ie_rng (a := 0) (b := 7) (by decide) (by decide) c1 c2
      refine br_f c1 (br_f c2 (br_f (by decide) ?_))
      have g1 : a_question (64 * s + 11) = nI G := (hq 11 (by decide)).trans k4
      have g2 : b_q (100 * s + 11) = nI G := (hy 11 (by decide)).trans k5
      rw [x11, x28, nI_clamp (by omega), g1]
      refine ⟨vp_in_nI (by omega) (by omega), pk_lt j G (fun c3 => ?_) (fun c3 => ?_)⟩
      · have m : (nI G - 1 - nI j) &&& 7 = nI ((G - 1 - j) % 8) := by
          rw [show nI G - 1 = nI (G - 1) from pk_sub (b := 1) (by omega), pk_sub (by omega)]
          exact ed_and7 (by omega)
        have e : a_question (64 * s + 28 + (G - 1 - j) % 8) = b_q (100 * s + 12 + (G - 1 - j) % 8) := by
          rw [Nat.add_assoc, Nat.add_assoc, hq _ (by omega), hy _ (by omega)]
          exact k7 _ (by omega) (by omega)
        rw [m, nI_add, nI_clamp (by omega), e]
        refine ⟨vp_in_nI (by omega) (by omega), vp_in_nI (by omega) (by omega), yi_slot hs (br_f (by decide) ⟨zi, br_f zb (br_f c1 (br_f c2 ?_))⟩)⟩
        rw [r11, r12, nI_clamp (by omega), g2]
        refine ⟨vp_in_nI (by omega) (by omega), br_t (nI_lt c3 (by omega)) ?_⟩
        rw [m, nI_add, nI_clamp (by omega)]
        exact ⟨vp_in_nI (by omega) (by omega), vp_in_nI (by omega) (by omega), rfl, I'⟩
      · refine yi_slot hs (br_f (by decide) ⟨zi, br_f zb (br_f c1 (br_f c2 ?_))⟩)
        rw [r11, r12, nI_clamp (by omega), g2]
        exact ⟨vp_in_nI (by omega) (by omega), br_f (nI_nlt c3 (by omega)) ⟨rfl, I'⟩⟩
end
section
/-! send -/
theorem i_vc_send {k : Nat} {u : SX} {v : SY} (I : i_Rel k u v) (hk : k + 6 ≤ 3072) (v1 : Int32) (v2 : Int32) (v3 : Int32) : wpX_send (fun r u' => wpY_send (fun r' v' => r' = r ∧ i_Rel (k + 6) u' v') v v1 v2 v3) u v1 v2 v3 := by
  have I := i_up I
  obtain ⟨f_terms, f_conditions, f_happened, f_waiting, f_lost, f_time, f_all, f_oldHappened, f_oldLost, f_oldTime, f_oldAll, f_kept, a_termOp, a_termValue, a_askedCode, a_code, a_oldCode, a_askedArg, a_arg, a_oldArg, a_askedLength, a_stack, a_question, a_oldQuestion, a_list, a_oldList, a_event, a_oldEvent⟩ := u
  obtain ⟨h_terms, h_listed, h_kept, h_waits, h_begun, h_has, h_out, b_term, b_list, b_q, b_ev, b_g, b_keptQ, b_keptEv, b_keptG, b_waiting, b_stack, b_met, b_view, b_sorted, b_breaks⟩ := v
  have I' := I
  obtain ⟨a1, a2, a3, a4, a5, a6, a7, ⟨H, T, b1, b2, b3, b4, b5, b6, b7, b8, b9, b10, b11⟩, a9⟩ := I
  unfold wpX_send wpX_within
  by_cases c1 : v1 < 0
  · exact br_t c1 (br_t rfl (br_t c1 ⟨rfl, I'⟩))
  by_cases c2 : 3 < v1
  · exact br_f c1 (br_t c2 (br_t rfl (br_f c1 (br_t c2 ⟨rfl, I'⟩))))
  refine br_f c1 (br_f c2 (br_f (by decide) ?_))
  by_cases c3 : H = 64
  · subst c3
    exact br_t b1 (br_f c1 (br_f c2 (br_t b2 ⟨rfl, I'⟩)))
  have hH : H < 64 := by omega
  have hT : T < 2 ^ 31 := by omega
  subst b1 b4 a6
  refine br_f (ec_neL (b := 64) c3 (by omega) (by decide)) ?_
  refine xs_append (H := H) (w := 0) (by omega) ⟨66, ?_⟩
  rw [wX_send_33]
  have q3 : (4 : Int32) * nI H + 3 = nI (4 * H + 3) := by rw [← nI_add, ← pk_mul]; rfl
  refine br_f (by decide) (nm_r (nI_1 _) (nm_r (e' := nI 0) rfl ⟨pk_in (4 * H + 3) _ (by omega) q3, nm_r (e' := upd (upd (upd (upd a_event (4 * (H + 0)) v1) (4 * (H + 0) + 1) v2) (4 * (H + 0) + 2) v3) (4 * H + 3) (nI T)) (by rw [q3, nI_clamp (by omega)]) ?_⟩))
  have hlow : ∀ j, j < 4 * H → upd (upd (upd a_event (4 * (H + 0)) v1) (4 * (H + 0) + 1) v2) (4 * (H + 0) + 2) v3 j = a_event j := fun j hj => by
    rw [pk_un (by omega), pk_un (by omega), pk_un (by omega)]
  obtain ⟨y4, hy4⟩ : ∃ y4, y4 = b_g 3 := ⟨_, rfl⟩
  refine ss_event (PY := fun Q u => match u with | (h_terms, h_listed, h_kept, h_waits, h_begun, h_has, h_out, b_term, b_list, b_q, b_ev, b_g, b_keptQ, b_keptEv, b_keptG, b_waiting, b_stack, b_met, b_view, b_sorted, b_breaks) => ∃ n47 : Nat, wY_send_47 Q y4 n47 h_terms h_listed h_kept h_waits h_begun h_has h_out b_term b_list b_q b_ev b_g b_keptQ b_keptEv b_keptG b_waiting b_stack b_met b_view b_sorted b_breaks) (Gof := fun Q => wpY_send Q (h_terms, h_listed, h_kept, h_waits, h_begun, h_has, h_out, b_term, b_list, b_q, b_ev, b_g, b_keptQ, b_keptEv, b_keptG, b_waiting, b_stack, b_met, b_view, b_sorted, b_breaks) v1 v2 v3) (H := H) (w := 0) (bg := 0) (T := T) (p0 := v1) (p1 := v2) (p2 := v3) (a_event := upd (upd (upd a_event (4 * (H + 0)) v1) (4 * (H + 0) + 1) v2) (4 * (H + 0) + 2) v3) (b_g := b_g) (b_ev := b_ev) (b_waiting := b_waiting) (b_q := b_q) (h_terms := h_terms) (h_listed := h_listed) (h_kept := h_kept) (b_term := b_term) (b_list := b_list) (b_keptQ := b_keptQ) (b_keptEv := b_keptEv) (b_keptG := b_keptG)
    hT (by omega) (by omega) b2 b7 b5 b8 (fun j hj => (b9 j hj).trans (hlow j hj).symm) ?_ (fun i c hi => by omega) (es_sl_E (fun j hj => (hlow j hj).symm) b11) ?_ ?_ pk_us (fun Q h => ?_) (fun w' lost' all' stk' aq' al' ev' bq' be' g' wt' tp FY => ?_)
  · have e3 : ∀ k, k < H → upd (upd (upd a_event (4 * (H + 0)) v1) (4 * (H + 0) + 1) v2) (4 * (H + 0) + 2) v3 (4 * k + 3) = a_event (4 * k + 3) := fun k hk => hlow _ (by omega)
    have e4 : ∀ k, k < H → es_tm (upd (upd (upd a_event (4 * (H + 0)) v1) (4 * (H + 0) + 1) v2) (4 * (H + 0) + 2) v3) k = es_tm a_event k := fun k hk => congrArg Int32.toNatClampNeg (e3 k hk)
    refine ⟨fun k hk => ?_, fun a b hab hb => ?_⟩
    · rw [e3 k hk, e4 k hk]; exact b10.1 k hk
    · rw [e4 a (by omega), e4 b hb]; exact b10.2 a b hab hb
  · exact (pk_un (by omega)).trans ((pk_un (by omega)).trans pk_us)
  · exact (pk_un (by omega)).trans pk_us
  · unfold wpY_send
    refine br_f c1 (br_f c2 (br_f (by rw [b2]; exact ec_neL (b := 64) c3 (by omega) (by decide)) (nm_r hy4.symm ?_)))
    exact h h_has h_out b_stack b_met b_view b_sorted b_breaks
  · refine ss_send (post := fun r u' => wpY_send (fun r' v' => r' = r ∧ i_Rel (k + 6) u' v') (h_terms, h_listed, h_kept, h_waits, h_begun, h_has, h_out, b_term, b_list, b_q, b_ev, b_g, b_keptQ, b_keptEv, b_keptG, b_waiting, b_stack, b_met, b_view, b_sorted, b_breaks) v1 v2 v3) (Gof := fun Q => wpY_send Q (h_terms, h_listed, h_kept, h_waits, h_begun, h_has, h_out, b_term, b_list, b_q, b_ev, b_g, b_keptQ, b_keptEv, b_keptG, b_waiting, b_stack, b_met, b_view, b_sorted, b_breaks) v1 v2 v3) (T := T) (h_terms := h_terms) (h_listed := h_listed) (h_kept := h_kept) (b_term := b_term) (b_list := b_list) (b_keptQ := b_keptQ) (b_keptEv := b_keptEv) (b_keptG := b_keptG) hT y4 (fun H2 bg2 lost2 all2 stk2 aq2 al2 ev2 bq2 be2 g2 wt2 tp2 FY2 => ?_) (64 - (H + 1)) (H + 1) w' 0 lost' all' stk' aq' al' ev' bq' be' g' wt' (by omega) tp (fun Q h => FY Q (fun has out ystk met vw srt bk => ⟨64 - (H + 1) + 1, h has out ystk met vw srt bk⟩)) 65 (by omega)
    refine FY2 _ (fun has out ystk met vw srt bk => ⟨by rw [hy4, b8], a1, a2, a3, a4, a5, rfl, a7, ?_, a9⟩)
    obtain ⟨t1, t2, t3, t4, t5, t6, t7, t8, t9, t10⟩ := tp2
    exact ⟨H2, T, rfl, t3, by omega, rfl, t5, b6, t4, t6, t7, t8, t10⟩
end
section
/-! translate: a term added to the folded code -/
theorem ie_nar {o : Nat} (h : o < 128) : vp_nar .byte (nI o) = nI o := by
  rw [vp_nar_byte]
  exact lg_i2b_small (by rw [nI_toInt (by omega)]; omega) (by rw [nI_toInt (by omega)]; omega)
theorem ie_nar2 {o : Nat} (h : o < 128) : vp_nar .byte (nI o).toInt8.toInt32 = nI o := by
  rw [lg_i2b_small (v := nI o) (by rw [nI_toInt (by omega)]; omega) (by rw [nI_toInt (by omega)]; omega), ie_nar h]
def et_res (cd ar cd' ar' : Nat → Int32) (B n n' : Nat) (tg : (Nat → Int32) → Option (List Int32)) : Prop :=
  n' ≤ n + 1 ∧ (∀ i, i < n' → ∃ o, o ≤ 33 ∧ cd' (B + i) = nI o) ∧ (∀ fe, ec_run fe (fun i => cd' (B + i)) (fun i => ar' (B + i)) n' = tg fe) ∧ (∀ j, j < B ∨ B + 12 ≤ j → cd' j = cd j ∧ ar' j = ar j) ∧ ie_b cd'
section
variable {cd ar : Nat → Int32} {B n m p : Nat} {w : Int32} {tg : (Nat → Int32) → Option (List Int32)}
theorem et_l1 (hm : m < 12) (hmn : m ≤ n) (hv : ∀ i, i < m → ∃ o, o ≤ 33 ∧ cd (B + i) = nI o) (hp : p ≤ 33) (hb : ie_b cd) (h : ∀ fe, (ec_run fe (fun i => cd (B + i)) (fun i => ar (B + i)) m).bind (ec_st fe (nI p) w) = tg fe) :
    et_res cd ar (upd cd (B + m) (nI p)) (upd ar (B + m) w) B n (m + 1) tg := by
  refine ⟨by omega, fun i hi => ?_, fun fe => ?_, fun j hj => ⟨pk_un (by omega), pk_un (by omega)⟩, fun j => ?_⟩
  · by_cases c : i = m
    · subst c; exact ⟨p, hp, pk_us⟩
    · rw [pk_un (by omega)]; exact hv i (by omega)
  · rw [ec_run, pk_us, pk_us, ec_run_congr (oc' := fun i => cd (B + i)) (ac' := fun i => ar (B + i)) (fun i hi => ⟨pk_un (by omega), pk_un (by omega)⟩)]
    exact h fe
  · by_cases c : j = B + m
    · subst c; rw [pk_us]; exact ie_nar (by omega)
    · rw [pk_un c]; exact hb j
theorem et_l2 (hm : m < 12) (hmn : m ≤ n) (hv : ∀ i, i < m + 1 → ∃ o, o ≤ 33 ∧ cd (B + i) = nI o) (hb : ie_b cd) (h : ∀ fe, (ec_run fe (fun i => cd (B + i)) (fun i => ar (B + i)) m).bind (ec_st fe (cd (B + m)) w) = tg fe) :
    et_res cd ar cd (upd ar (B + m) w) B n (m + 1) tg := by
  refine ⟨by omega, hv, fun fe => ?_, fun j hj => ⟨rfl, pk_un (by omega)⟩, hb⟩
  rw [ec_run, pk_us, ec_run_congr (oc' := fun i => cd (B + i)) (ac' := fun i => ar (B + i)) (fun i hi => ⟨rfl, pk_un (by omega)⟩)]
  exact h fe
end
theorem et_run_s {fe oc ac : Nat → Int32} {n : Nat} {st : List Int32} (h : ec_run fe oc ac (n + 1) = some st) : ∃ s0, ec_run fe oc ac n = some s0 ∧ ec_st fe (oc n) (ac n) s0 = some st := by
  rw [ec_run] at h
  cases hn : ec_run fe oc ac n with
  | none => rw [hn] at h; cases h
  | some s0 => rw [hn] at h; exact ⟨s0, rfl, h⟩
theorem et_lt1 {B : Nat} (h : B < 2 ^ 31) : nI B - 1 < nI B := by rw [Int32.sub_eq_add_neg]; exact ed_pred_lt h
theorem et_lt2 {B : Nat} (h : B < 2 ^ 31 - 1) : nI (B + 1) - 2 < nI B := by
  rw [← nI_1, show (2 : Int32) = 1 + 1 from rfl, ← Int32.sub_sub, Int32.add_sub_cancel]
  exact et_lt1 (by omega)
theorem et_cp20 {o : Nat} : nI (o + 20) - 20 = nI o := by
  rw [← nI_add]
  exact Int32.add_sub_cancel _ _
section
variable {f_terms f_conditions f_happened f_waiting f_lost f_time f_all f_oldHappened f_oldLost f_oldTime f_oldAll f_kept : Int32} {a_termOp a_termValue a_askedCode a_code a_oldCode a_askedArg a_arg a_oldArg a_askedLength a_stack a_question a_oldQuestion a_list a_oldList a_event a_oldEvent : Nat → Int32} {B n m o p : Nat} {v y w : Int32} {tg : (Nat → Int32) → Option (List Int32)} {post : Int32 → SX → Prop}
theorem xt_emit (hB : B + 12 ≤ 36) (hm : m < 12) (hp : p ≤ 33) (K : post (nI (B + m + 1)) (f_terms, f_conditions, f_happened, f_waiting, f_lost, f_time, f_all, f_oldHappened, f_oldLost, f_oldTime, f_oldAll, f_kept, a_termOp, a_termValue, (upd a_askedCode (B + m) (nI p)), a_code, a_oldCode, (upd a_askedArg (B + m) w), a_arg, a_oldArg, a_askedLength, a_stack, a_question, a_oldQuestion, a_list, a_oldList, a_event, a_oldEvent)) : wpX_emit post (f_terms, f_conditions, f_happened, f_waiting, f_lost, f_time, f_all, f_oldHappened, f_oldLost, f_oldTime, f_oldAll, f_kept, a_termOp, a_termValue, a_askedCode, a_code, a_oldCode, a_askedArg, a_arg, a_oldArg, a_askedLength, a_stack, a_question, a_oldQuestion, a_list, a_oldList, a_event, a_oldEvent) (nI (B + m)) (nI p) w := by
  unfold wpX_emit
  dsimp only
  rw [nI_clamp (by omega), ie_nar2 (by omega), nI_1]
  exact ⟨vp_in_nI (by omega) (by omega), nm_e ⟨vp_in_nI (by omega) (by omega), nm_e K⟩⟩
/-- a term p with the constant y in place of its topmost value, over the code's first m -/
theorem xt_shorten (hB : B + 12 ≤ 36) (hm : m < 12) (hmn : m ≤ n) (hv : ∀ i, i < m → ∃ o, o ≤ 33 ∧ a_askedCode (B + i) = nI o) (hb : ie_b a_askedCode) (hp5 : 5 ≤ p) (hp : p ≤ 13) (hp6 : p ≠ 6) (hp12 : p ≠ 12)
    (ht : ∀ fe, ∃ x r, ec_run fe (fun i => a_askedCode (B + i)) (fun i => a_askedArg (B + i)) m = some (x :: r) ∧ tg fe = some (ec_cp (nI p) x y :: r))
    (K : ∀ cd' ar' n', et_res a_askedCode a_askedArg cd' ar' B n n' tg → post (nI (B + n')) (f_terms, f_conditions, f_happened, f_waiting, f_lost, f_time, f_all, f_oldHappened, f_oldLost, f_oldTime, f_oldAll, f_kept, a_termOp, a_termValue, cd', a_code, a_oldCode, ar', a_arg, a_oldArg, a_askedLength, a_stack, a_question, a_oldQuestion, a_list, a_oldList, a_event, a_oldEvent)) : wpX_shorten post (f_terms, f_conditions, f_happened, f_waiting, f_lost, f_time, f_all, f_oldHappened, f_oldLost, f_oldTime, f_oldAll, f_kept, a_termOp, a_termValue, a_askedCode, a_code, a_oldCode, a_askedArg, a_arg, a_oldArg, a_askedLength, a_stack, a_question, a_oldQuestion, a_list, a_oldList, a_event, a_oldEvent) (nI B) (nI (B + m)) (nI p) y := by
  have emit : wX_shorten_98 post (nI (B + m)) (nI p) y f_terms f_conditions f_happened f_waiting f_lost f_time f_all f_oldHappened f_oldLost f_oldTime f_oldAll f_kept a_termOp a_termValue a_askedCode a_code a_oldCode a_askedArg a_arg a_oldArg a_askedLength a_stack a_question a_oldQuestion a_list a_oldList a_event a_oldEvent := by
    unfold wX_shorten_98
    rw [show nI p + 20 = nI (p + 20) from nI_add p 20]
    refine xt_emit hB hm (by omega) (K _ _ (m + 1) (et_l1 hm hmn hv (by omega) hb (fun fe => ?_)))
    obtain ⟨x, r, h1, h2⟩ := ht fe
    rw [h1, h2]
    show ec_st fe (nI (p + 20)) y (x :: r) = _
    rw [ec_st_u (by omega) (by omega), et_cp20]
    rfl
  have same : (∀ x, ec_cp (nI p) x y = x) → post (nI (B + m)) (f_terms, f_conditions, f_happened, f_waiting, f_lost, f_time, f_all, f_oldHappened, f_oldLost, f_oldTime, f_oldAll, f_kept, a_termOp, a_termValue, a_askedCode, a_code, a_oldCode, a_askedArg, a_arg, a_oldArg, a_askedLength, a_stack, a_question, a_oldQuestion, a_list, a_oldList, a_event, a_oldEvent) := by
    intro hx
    refine K _ _ m ⟨by omega, hv, fun fe => ?_, fun j _ => ⟨rfl, rfl⟩, hb⟩
    obtain ⟨x, r, h1, h2⟩ := ht fe
    rw [h1, h2, hx]
  have e84 : wX_shorten_84 post (nI (B + m)) (nI p) y f_terms f_conditions f_happened f_waiting f_lost f_time f_all f_oldHappened f_oldLost f_oldTime f_oldAll f_kept a_termOp a_termValue a_askedCode a_code a_oldCode a_askedArg a_arg a_oldArg a_askedLength a_stack a_question a_oldQuestion a_list a_oldList a_event a_oldEvent := by
    unfold wX_shorten_84
    refine pk_eq p 7 (fun c => ?_) (fun _ => emit)
    subst c
    refine br_c (fun c => ?_) (fun _ => emit)
    subst c
    refine same (fun x => ?_)
    show x * 1 = x
    exact Int32.mul_one x
  have e74 : wX_shorten_74 post (nI (B + m)) (nI p) y f_terms f_conditions f_happened f_waiting f_lost f_time f_all f_oldHappened f_oldLost f_oldTime f_oldAll f_kept a_termOp a_termValue a_askedCode a_code a_oldCode a_askedArg a_arg a_oldArg a_askedLength a_stack a_question a_oldQuestion a_list a_oldList a_event a_oldEvent := by
    unfold wX_shorten_74
    refine pk_eq p 5 (fun c => ?_) (fun _ => e84)
    subst c
    refine br_c (fun c => ?_) (fun _ => e84)
    subst c
    refine same (fun x => ?_)
    show x + 0 = x
    exact Int32.add_zero x
  unfold wpX_shorten
  refine pk_le (B + m) B (fun c => ?_) (fun c => ?_)
  · unfold wX_shorten_17 wX_shorten_46
    exact br_c (fun _ => br_f (by decide) (br_c (fun _ => br_f (by decide) e74) (fun _ => e74))) (fun _ => br_c (fun _ => br_f (by decide) e74) (fun _ => e74))
  · obtain ⟨l, rfl⟩ : ∃ l, m = l + 1 := ⟨m - 1, by omega⟩
    have q : nI (B + (l + 1)) - 1 = nI (B + l) := nI_pred _
    obtain ⟨b, hb1, hb2⟩ := hv l (by omega)
    rw [q, nI_clamp (by omega), hb2]
    refine ⟨vp_in_nI (by omega) (by omega), ?_⟩
    unfold wX_shorten_17 wX_shorten_46
    rw [q, nI_clamp (by omega)]
    have upd2 : ∀ w, (∀ fe x s, ec_st fe (nI b) (a_askedArg (B + l)) s = some (x :: s.tail) → s ≠ [] → ec_st fe (nI b) w s = some (ec_cp (nI p) x y :: s.tail)) → (∀ fe s t, ec_st fe (nI b) (a_askedArg (B + l)) s = some t → s ≠ [] ∧ ∃ x, t = x :: s.tail) →
        post (nI (B + (l + 1))) (f_terms, f_conditions, f_happened, f_waiting, f_lost, f_time, f_all, f_oldHappened, f_oldLost, f_oldTime, f_oldAll, f_kept, a_termOp, a_termValue, a_askedCode, a_code, a_oldCode, (upd a_askedArg (B + l) w), a_arg, a_oldArg, a_askedLength, a_stack, a_question, a_oldQuestion, a_list, a_oldList, a_event, a_oldEvent) := by
      intro w h1 h2
      refine K _ _ (l + 1) (et_l2 (by omega) (by omega) hv hb (fun fe => ?_))
      obtain ⟨x, r, g1, g2⟩ := ht fe
      obtain ⟨s0, s1, s2⟩ := et_run_s g1
      rw [hb2] at s2 ⊢
      obtain ⟨k1, x', k2⟩ := h2 fe s0 _ s2
      cases k2
      rw [s1, g2]
      exact h1 fe x s0 s2 k1
    have un20 : ∀ (q : Nat), q + 20 = b → 5 ≤ q → q ≤ 13 → ∀ fe s t w, ec_st fe (nI b) w s = some t → s ≠ [] ∧ ∃ x, t = x :: s.tail := by
      intro q hq q1 q2 fe s t w h
      subst hq
      rw [ec_st_u (by omega) (by omega)] at h
      cases s with
      | nil => cases h
      | cons a s => cases h; exact ⟨by simp, _, rfl⟩
    refine pk_eq p 5 (fun c => ?_) (fun c => ?_)
    · refine pk_eq b 25 (fun d => ?_) (fun d => br_c (fun z => absurd z (by rw [c]; decide)) (fun _ => e74))
      subst c d
      refine ⟨vp_in_nI (by omega) (by omega), vp_in_nI (by omega) (by omega), nm_e (upd2 _ (fun fe x s h hs => ?_) (fun fe s t h => un20 5 rfl (by decide) (by decide) fe s t _ h))⟩
      cases s with
      | nil => exact absurd rfl hs
      | cons a s =>
        have h : some ((a + a_askedArg (B + l)) :: s) = some (x :: s) := h
        have hx : a + a_askedArg (B + l) = x := (List.cons.inj (Option.some.inj h)).1
        show some ((a + (a_askedArg (B + l) + y)) :: s) = some ((x + y) :: s)
        rw [← hx, Int32.add_assoc]
    · refine pk_eq p 7 (fun c => ?_) (fun _ => e74)
      refine pk_eq b 27 (fun d => ?_) (fun _ => e74)
      subst c d
      refine ⟨vp_in_nI (by omega) (by omega), vp_in_nI (by omega) (by omega), nm_e (upd2 _ (fun fe x s h hs => ?_) (fun fe s t h => un20 7 rfl (by decide) (by decide) fe s t _ h))⟩
      cases s with
      | nil => exact absurd rfl hs
      | cons a s =>
        have h : some (a * a_askedArg (B + l) :: s) = some (x :: s) := h
        have hx : a * a_askedArg (B + l) = x := (List.cons.inj (Option.some.inj h)).1
        show some (a * (a_askedArg (B + l) * y) :: s) = some (x * y :: s)
        rw [← hx, Int32.mul_assoc]
end
end
section
/-! translate as a whole -/
section
variable {f_terms f_conditions f_happened f_waiting f_lost f_time f_all f_oldHappened f_oldLost f_oldTime f_oldAll f_kept : Int32} {a_termOp a_termValue a_askedCode a_code a_oldCode a_askedArg a_arg a_oldArg a_askedLength a_stack a_question a_oldQuestion a_list a_oldList a_event a_oldEvent : Nat → Int32} {B n o : Nat} {v : Int32} {post : Int32 → SX → Prop}
theorem xt_const {post : Int32 → Prop} {m : Nat} {b : Nat} (hB : B + 12 ≤ 36) (hm : m < 12) (hc : a_askedCode (B + m) = nI b) (hb : b < 2 ^ 31) (hp : post (if b = 0 then 1 else 0)) : wpX_isConstant post (f_terms, f_conditions, f_happened, f_waiting, f_lost, f_time, f_all, f_oldHappened, f_oldLost, f_oldTime, f_oldAll, f_kept, a_termOp, a_termValue, a_askedCode, a_code, a_oldCode, a_askedArg, a_arg, a_oldArg, a_askedLength, a_stack, a_question, a_oldQuestion, a_list, a_oldList, a_event, a_oldEvent) (nI B) (nI (B + m)) := by
  unfold wpX_isConstant
  dsimp only
  rw [nI_clamp (by omega), hc]
  refine br_f (nI_nlt (by omega) (by omega)) ⟨vp_in_nI (by omega) (by omega), pk_eq b 0 (fun c => ?_) (fun c => ?_)⟩
  · rw [if_pos c] at hp; exact hp
  · rw [if_neg c] at hp; exact hp
theorem xt_const0 {post : Int32 → Prop} {a : Int32} (h : a < nI B) (hp : post 0) : wpX_isConstant post (f_terms, f_conditions, f_happened, f_waiting, f_lost, f_time, f_all, f_oldHappened, f_oldLost, f_oldTime, f_oldAll, f_kept, a_termOp, a_termValue, a_askedCode, a_code, a_oldCode, a_askedArg, a_arg, a_oldArg, a_askedLength, a_stack, a_question, a_oldQuestion, a_list, a_oldList, a_event, a_oldEvent) (nI B) a := by
  unfold wpX_isConstant
  exact br_t h hp
theorem xt_translate (hB : B + 12 ≤ 36) (hn : n < 12) (ho : o ≤ 13) (hv : ∀ i, i < n → ∃ o, o ≤ 33 ∧ a_askedCode (B + i) = nI o) (hb : ie_b a_askedCode)
    (ht : ∀ fe, ∃ st st', ec_run fe (fun i => a_askedCode (B + i)) (fun i => a_askedArg (B + i)) n = some st ∧ ec_st fe (nI o) v st = some st')
    (K : ∀ cd' ar' n', et_res a_askedCode a_askedArg cd' ar' B n n' (fun fe => (ec_run fe (fun i => a_askedCode (B + i)) (fun i => a_askedArg (B + i)) n).bind (ec_st fe (nI o) v)) → post (nI (B + n')) (f_terms, f_conditions, f_happened, f_waiting, f_lost, f_time, f_all, f_oldHappened, f_oldLost, f_oldTime, f_oldAll, f_kept, a_termOp, a_termValue, cd', a_code, a_oldCode, ar', a_arg, a_oldArg, a_askedLength, a_stack, a_question, a_oldQuestion, a_list, a_oldList, a_event, a_oldEvent)) :
    wpX_translate post (f_terms, f_conditions, f_happened, f_waiting, f_lost, f_time, f_all, f_oldHappened, f_oldLost, f_oldTime, f_oldAll, f_kept, a_termOp, a_termValue, a_askedCode, a_code, a_oldCode, a_askedArg, a_arg, a_oldArg, a_askedLength, a_stack, a_question, a_oldQuestion, a_list, a_oldList, a_event, a_oldEvent) (nI B) (nI (B + n)) (nI o) v := by
  have emit : ∀ w, (∀ fe st, ec_st fe (nI o) w st = ec_st fe (nI o) v st) → wpX_emit (fun r u => match u with | (f_terms, f_conditions, f_happened, f_waiting, f_lost, f_time, f_all, f_oldHappened, f_oldLost, f_oldTime, f_oldAll, f_kept, a_termOp, a_termValue, a_askedCode, a_code, a_oldCode, a_askedArg, a_arg, a_oldArg, a_askedLength, a_stack, a_question, a_oldQuestion, a_list, a_oldList, a_event, a_oldEvent) => post r (f_terms, f_conditions, f_happened, f_waiting, f_lost, f_time, f_all, f_oldHappened, f_oldLost, f_oldTime, f_oldAll, f_kept, a_termOp, a_termValue, a_askedCode, a_code, a_oldCode, a_askedArg, a_arg, a_oldArg, a_askedLength, a_stack, a_question, a_oldQuestion, a_list, a_oldList, a_event, a_oldEvent)) (f_terms, f_conditions, f_happened, f_waiting, f_lost, f_time, f_all, f_oldHappened, f_oldLost, f_oldTime, f_oldAll, f_kept, a_termOp, a_termValue, a_askedCode, a_code, a_oldCode, a_askedArg, a_arg, a_oldArg, a_askedLength, a_stack, a_question, a_oldQuestion, a_list, a_oldList, a_event, a_oldEvent) (nI (B + n)) (nI o) w := by
    intro w hw
    refine xt_emit hB hn (by omega) (K _ _ (n + 1) (et_l1 hn (Nat.le_refl _) hv (by omega) hb (fun fe => ?_)))
    obtain ⟨st, st', h1, h2⟩ := ht fe
    rw [h1]
    exact hw fe st
  unfold wpX_translate
  dsimp only
  by_cases o5 : o < 5
  · exact br_f (nI_ge (b := 5) o5 (by decide)) (emit v (fun _ _ => rfl))
  refine br_t (nI_le (a := 5) (by omega) (by omega)) ?_
  have ign : ∀ w fe st, ec_st fe (nI o) w st = ec_st fe (nI o) v st := by
    intro w fe st
    by_cases c : o = 12
    · subst c; rfl
    · rw [ec_st_b (by omega) (by omega) c, ec_st_b (by omega) (by omega) c]
  have noc : ((nI o = 12 → (0 = 0 → wpX_emit (fun r u => match u with | (f_terms, f_conditions, f_happened, f_waiting, f_lost, f_time, f_all, f_oldHappened, f_oldLost, f_oldTime, f_oldAll, f_kept, a_termOp, a_termValue, a_askedCode, a_code, a_oldCode, a_askedArg, a_arg, a_oldArg, a_askedLength, a_stack, a_question, a_oldQuestion, a_list, a_oldList, a_event, a_oldEvent) => post r (f_terms, f_conditions, f_happened, f_waiting, f_lost, f_time, f_all, f_oldHappened, f_oldLost, f_oldTime, f_oldAll, f_kept, a_termOp, a_termValue, a_askedCode, a_code, a_oldCode, a_askedArg, a_arg, a_oldArg, a_askedLength, a_stack, a_question, a_oldQuestion, a_list, a_oldList, a_event, a_oldEvent)) (f_terms, f_conditions, f_happened, f_waiting, f_lost, f_time, f_all, f_oldHappened, f_oldLost, f_oldTime, f_oldAll, f_kept, a_termOp, a_termValue, a_askedCode, a_code, a_oldCode, a_askedArg, a_arg, a_oldArg, a_askedLength, a_stack, a_question, a_oldQuestion, a_list, a_oldList, a_event, a_oldEvent) (nI (B + n)) (nI o) 0)) ∧ (¬ nI o = 12 → (0 = 0 → wpX_emit (fun r u => match u with | (f_terms, f_conditions, f_happened, f_waiting, f_lost, f_time, f_all, f_oldHappened, f_oldLost, f_oldTime, f_oldAll, f_kept, a_termOp, a_termValue, a_askedCode, a_code, a_oldCode, a_askedArg, a_arg, a_oldArg, a_askedLength, a_stack, a_question, a_oldQuestion, a_list, a_oldList, a_event, a_oldEvent) => post r (f_terms, f_conditions, f_happened, f_waiting, f_lost, f_time, f_all, f_oldHappened, f_oldLost, f_oldTime, f_oldAll, f_kept, a_termOp, a_termValue, a_askedCode, a_code, a_oldCode, a_askedArg, a_arg, a_oldArg, a_askedLength, a_stack, a_question, a_oldQuestion, a_list, a_oldList, a_event, a_oldEvent)) (f_terms, f_conditions, f_happened, f_waiting, f_lost, f_time, f_all, f_oldHappened, f_oldLost, f_oldTime, f_oldAll, f_kept, a_termOp, a_termValue, a_askedCode, a_code, a_oldCode, a_askedArg, a_arg, a_oldArg, a_askedLength, a_stack, a_question, a_oldQuestion, a_list, a_oldList, a_event, a_oldEvent) (nI (B + n)) (nI o) 0))) := ⟨fun _ _ => emit 0 (ign 0), fun _ _ => emit 0 (ign 0)⟩
  by_cases n0 : n = 0
  · subst n0
    refine xt_const0 (et_lt1 (by omega)) ?_
    exact br_c (fun _ => br_t rfl (emit 0 (ign 0))) (fun _ => br_t rfl (emit 0 (ign 0)))
  obtain ⟨l, rfl⟩ : ∃ l, n = l + 1 := ⟨n - 1, by omega⟩
  have q : nI (B + (l + 1)) - 1 = nI (B + l) := nI_pred _
  obtain ⟨b, hb1, hb2⟩ := hv l (by omega)
  rw [q]
  refine xt_const hB (by omega) hb2 (by omega) ?_
  by_cases b0 : b = 0
  · subst b0
    rw [if_pos rfl]
    have tos : ∀ fe, ∃ s0, ec_run fe (fun i => a_askedCode (B + i)) (fun i => a_askedArg (B + i)) l = some s0 ∧ ec_run fe (fun i => a_askedCode (B + i)) (fun i => a_askedArg (B + i)) (l + 1) = some (a_askedArg (B + l) :: s0) ∧ ∃ st', ec_st fe (nI o) v (a_askedArg (B + l) :: s0) = some st' := by
      intro fe
      obtain ⟨st, st', h1, h2⟩ := ht fe
      obtain ⟨s0, s1, s2⟩ := et_run_s h1
      rw [hb2, ec_st_0] at s2
      cases s2
      exact ⟨s0, s1, h1, st', h2⟩
    refine pk_eq o 12 (fun c => ?_) (fun c => ?_)
    · subst c
      refine br_f (by decide) ?_
      rw [nI_clamp (by omega)]
      have go : post (nI (B + (l + 1))) (f_terms, f_conditions, f_happened, f_waiting, f_lost, f_time, f_all, f_oldHappened, f_oldLost, f_oldTime, f_oldAll, f_kept, a_termOp, a_termValue, a_askedCode, a_code, a_oldCode, (upd a_askedArg (B + l) (ec_nt (a_askedArg (B + l)))), a_arg, a_oldArg, a_askedLength, a_stack, a_question, a_oldQuestion, a_list, a_oldList, a_event, a_oldEvent) := by
        refine K _ _ (l + 1) (et_l2 (by omega) (by omega) hv hb (fun fe => ?_))
        obtain ⟨s0, s1, s2, _⟩ := tos fe
        rw [s1, s2, hb2]
        rfl
      refine ⟨vp_in_nI (by omega) (by omega), br_c (fun z => ⟨vp_in_nI (by omega) (by omega), nm_e ?_⟩) (fun z => ⟨vp_in_nI (by omega) (by omega), nm_e ?_⟩)⟩
      · have e : ec_nt (a_askedArg (B + l)) = 1 := if_pos z
        rw [e] at go; exact go
      · have e : ec_nt (a_askedArg (B + l)) = 0 := if_neg z
        rw [e] at go; exact go
    · refine br_f (by decide) ?_
      rw [nI_clamp (by omega)]
      refine ⟨vp_in_nI (by omega) (by omega), nm_e ?_⟩
      -- shorten
      have sh : wX_translate_145 post (nI o) (a_askedArg (B + l)) (if o = 6 then 5 else nI o) (nI (B + l)) (nI B) f_terms f_conditions f_happened f_waiting f_lost f_time f_all f_oldHappened f_oldLost f_oldTime f_oldAll f_kept a_termOp a_termValue a_askedCode a_code a_oldCode a_askedArg a_arg a_oldArg a_askedLength a_stack a_question a_oldQuestion a_list a_oldList a_event a_oldEvent := by
        have run : ∀ fe, ∃ x r, ec_run fe (fun i => a_askedCode (B + i)) (fun i => a_askedArg (B + i)) l = some (x :: r) ∧ (ec_run fe (fun i => a_askedCode (B + i)) (fun i => a_askedArg (B + i)) (l + 1)).bind (ec_st fe (nI o) v) = some (ec_cp (nI o) x (a_askedArg (B + l)) :: r) := by
          intro fe
          obtain ⟨s0, s1, s2, st', s3⟩ := tos fe
          rw [ec_st_b (by omega) (by omega) c] at s3
          cases s0 with
          | nil => cases s3
          | cons x r =>
            refine ⟨x, r, s1, ?_⟩
            rw [s2]
            show ec_st fe (nI o) v _ = _
            rw [ec_st_b (by omega) (by omega) c]
            rfl
        unfold wX_translate_145 wX_translate_159
        refine pk_eq o 6 (fun d => ?_) (fun d => ?_)
        · rw [if_pos d]
          subst d
          refine xt_shorten (p := 5) (m := l) (n := l + 1) hB (by omega) (by omega) (fun i hi => hv i (by omega)) hb (by decide) (by decide) (by decide) (by decide) (fun fe => ?_) K
          obtain ⟨x, r, h1, h2⟩ := run fe
          refine ⟨x, r, h1, ?_⟩
          rw [h2]
          show some ((x - a_askedArg (B + l)) :: r) = some ((x + -a_askedArg (B + l)) :: r)
          rw [Int32.sub_eq_add_neg]
        · rw [if_neg d]
          exact xt_shorten (p := o) (m := l) (n := l + 1) hB (by omega) (by omega) (fun i hi => hv i (by omega)) hb (by omega) ho d c run K
      have shf : (nI o = 6 → wX_translate_145 post (nI o) (a_askedArg (B + l)) 5 (nI (B + l)) (nI B) f_terms f_conditions f_happened f_waiting f_lost f_time f_all f_oldHappened f_oldLost f_oldTime f_oldAll f_kept a_termOp a_termValue a_askedCode a_code a_oldCode a_askedArg a_arg a_oldArg a_askedLength a_stack a_question a_oldQuestion a_list a_oldList a_event a_oldEvent) ∧ (¬ nI o = 6 → wX_translate_145 post (nI o) (a_askedArg (B + l)) (nI o) (nI (B + l)) (nI B) f_terms f_conditions f_happened f_waiting f_lost f_time f_all f_oldHappened f_oldLost f_oldTime f_oldAll f_kept a_termOp a_termValue a_askedCode a_code a_oldCode a_askedArg a_arg a_oldArg a_askedLength a_stack a_question a_oldQuestion a_list a_oldList a_event a_oldEvent) := by
        refine pk_eq o 6 (fun d => ?_) (fun d => ?_)
        · rw [if_pos d] at sh; exact sh
        · rw [if_neg d] at sh; exact sh
      by_cases l0 : l = 0
      · subst l0
        exact xt_const0 (et_lt2 (by omega)) (br_t rfl shf)
      obtain ⟨k, rfl⟩ : ∃ k, l = k + 1 := ⟨l - 1, by omega⟩
      have q2 : nI (B + (k + 1 + 1)) - 2 = nI (B + k) := pk_sub (a := B + (k + 1 + 1)) (b := 2) (by omega)
      obtain ⟨b', hb1', hb2'⟩ := hv k (by omega)
      rw [q2]
      refine xt_const hB (by omega) hb2' (by omega) ?_
      by_cases b0' : b' = 0
      · subst b0'
        rw [if_pos rfl]
        refine br_f (by decide) ?_
        rw [nI_clamp (by omega)]
        refine ⟨vp_in_nI (by omega) (by omega), ec_xcp ⟨vp_in_nI (by omega) (by omega), nm_e ?_⟩⟩
        refine K _ _ (k + 1) ?_
        have := et_l2 (cd := a_askedCode) (ar := a_askedArg) (B := B) (n := k + 1 + 1) (m := k) (w := ec_cp (nI o) (a_askedArg (B + k)) (a_askedArg (B + (k + 1)))) (tg := fun fe => (ec_run fe (fun i => a_askedCode (B + i)) (fun i => a_askedArg (B + i)) (k + 1 + 1)).bind (ec_st fe (nI o) v)) (by omega) (by omega) (fun i hi => hv i (by omega)) hb (fun fe => ?_)
        · exact this
        · obtain ⟨s0, s1, s2, _⟩ := tos fe
          obtain ⟨t0, t1, t2⟩ := et_run_s s1
          rw [hb2', ec_st_0] at t2
          cases t2
          rw [t1, hb2', s2]
          show ec_st fe (nI 0) _ t0 = ec_st fe (nI o) v _
          rw [ec_st_0, ec_st_b (by omega) (by omega) c]
          rfl
      · rw [if_neg b0']
        exact br_t rfl shf
  · rw [if_neg b0]
    exact br_c (fun _ => br_t rfl (emit 0 (ign 0))) (fun _ => br_t rfl (emit 0 (ign 0)))
end
end
section
/-! term and condition -/
def et_tk (o : Nat) : Nat := if o < 5 then 0 else if o = 12 then 1 else 2
def et_ht (op : Nat → Nat) : Nat → Option Nat
  | 0 => some 0
  | k + 1 => (et_ht op k).bind (fun h => if h < et_tk (op k) then none else some (h + 1 - et_tk (op k)))
theorem et_ht_le {op : Nat → Nat} : ∀ {k h}, et_ht op k = some h → h ≤ k
  | 0, h, e => by cases e; exact Nat.le_refl 0
  | k + 1, h, e => by
    rw [et_ht] at e
    cases hk : et_ht op k with
    | none => rw [hk] at e; cases e
    | some h0 =>
      rw [hk] at e
      have := et_ht_le hk
      have e : (if h0 < et_tk (op k) then none else some (h0 + 1 - et_tk (op k))) = some h := e
      by_cases c : h0 < et_tk (op k)
      · rw [if_pos c] at e; cases e
      · rw [if_neg c] at e; cases e; omega
theorem et_ht_none {op : Nat → Nat} {n : Nat} : ∀ d k, k + d = n → et_ht op k = none → et_ht op n = none
  | 0, k, hk, h => by rw [show n = k by omega]; exact h
  | d + 1, k, hk, h => et_ht_none d (k + 1) (by omega) (by rw [et_ht, h]; rfl)
theorem et_ht_pre {op : Nat → Nat} {n h : Nat} (e : et_ht op n = some h) {k : Nat} (hk : k ≤ n) : ∃ h', et_ht op k = some h' := by
  cases c : et_ht op k with
  | some h' => exact ⟨h', rfl⟩
  | none => rw [et_ht_none (n - k) k (by omega) c] at e; cases e
theorem et_ht_run {op : Nat → Nat} {fe oc ac : Nat → Int32} {n : Nat} (ho : ∀ j, j < n → op j ≤ 13 ∧ oc j = nI (op j)) : ∀ k h, k ≤ n → et_ht op k = some h → ∃ st, ec_run fe oc ac k = some st ∧ st.length = h
  | 0, h, _, e => by cases e; exact ⟨[], rfl, rfl⟩
  | k + 1, h, hk, e => by
    rw [et_ht] at e
    cases hk2 : et_ht op k with
    | none => rw [hk2] at e; cases e
    | some h0 =>
      rw [hk2] at e
      have e : (if h0 < et_tk (op k) then none else some (h0 + 1 - et_tk (op k))) = some h := e
      obtain ⟨st, s1, s2⟩ := et_ht_run ho k h0 (by omega) hk2
      obtain ⟨o1, o2⟩ := ho k (by omega)
      by_cases c : h0 < et_tk (op k)
      · rw [if_pos c] at e; cases e
      · rw [if_neg c] at e
        cases e
        rw [ec_run, s1, o2]
        show ∃ t, ec_st fe (nI (op k)) (ac k) st = some t ∧ t.length = h0 + 1 - et_tk (op k)
        unfold et_tk at c ⊢
        by_cases o5 : op k < 5
        · rw [if_pos o5] at c ⊢
          rcases (show op k = 0 ∨ op k = 1 ∨ op k = 2 ∨ op k = 3 ∨ op k = 4 by omega) with z | z | z | z | z <;> rw [z]
          · exact ⟨_, ec_st_0, by rw [List.length_cons, s2]; rfl⟩
          · exact ⟨_, ec_st_1, by rw [List.length_cons, s2]; rfl⟩
          · exact ⟨_, ec_st_2, by rw [List.length_cons, s2]; rfl⟩
          · exact ⟨_, ec_st_3, by rw [List.length_cons, s2]; rfl⟩
          · exact ⟨_, ec_st_4, by rw [List.length_cons, s2]; rfl⟩
        · rw [if_neg o5] at c ⊢
          by_cases o12 : op k = 12
          · rw [if_pos o12] at c ⊢
            rw [o12, ec_st_12]
            cases st with
            | nil => rw [List.length_nil] at s2; omega
            | cons x r => exact ⟨_, rfl, by rw [List.length_cons] at s2 ⊢; omega⟩
          · rw [if_neg o12] at c ⊢
            rw [ec_st_b (by omega) (by omega) o12]
            cases st with
            | nil => rw [List.length_nil] at s2; omega
            | cons x r =>
              cases r with
              | nil => rw [List.length_cons, List.length_nil] at s2; omega
              | cons y r => exact ⟨_, rfl, by rw [List.length_cons, List.length_cons] at s2; rw [List.length_cons]; omega⟩
theorem et_hx {h t : Nat} (ht : t ≤ h) : nI h + (1 - nI t) = nI (h + 1 - t) := by
  rw [Int32.sub_eq_add_neg, ← Int32.add_assoc, ← Int32.sub_eq_add_neg, nI_1, pk_sub (by omega)]
section
variable {f_terms f_conditions f_happened f_waiting f_lost f_time f_all f_oldHappened f_oldLost f_oldTime f_oldAll f_kept : Int32} {a_termOp a_termValue a_askedCode a_code a_oldCode a_askedArg a_arg a_oldArg a_askedLength a_stack a_question a_oldQuestion a_list a_oldList a_event a_oldEvent : Nat → Int32} {n : Nat} {op : Nat → Nat} {post : Int32 → Prop}
theorem xt_whole_loop (hn : n ≤ 12) (hft : f_terms = nI n) (ho : ∀ j, j < n → op j ≤ 13 ∧ a_termOp j = nI (op j)) (h1 : et_ht op n = some 1 → post 1) (h0 : ¬ et_ht op n = some 1 → post 0) :
    ∀ d k h, k + d = n → et_ht op k = some h → ∀ m, d < m → wX_whole_4 post f_terms f_conditions f_happened f_waiting f_lost f_time f_all f_oldHappened f_oldLost f_oldTime f_oldAll f_kept a_termOp a_termValue a_askedCode a_code a_oldCode a_askedArg a_arg a_oldArg a_askedLength a_stack a_question a_oldQuestion a_list a_oldList a_event a_oldEvent m (nI h) (nI k) := by
  subst hft
  intro d
  induction d with
  | zero =>
    intro k h hk e m hm
    obtain ⟨m, rfl⟩ : ∃ j, m = j + 1 := ⟨m - 1, by omega⟩
    obtain rfl : k = n := by omega
    have := et_ht_le e
    rw [wX_whole_4]
    refine br_t (Int32.le_refl _) (pk_eq h 1 (fun c => h1 (by rw [e, c])) (fun c => h0 (fun z => c (by rw [e] at z; exact Option.some.inj z))))
  | succ d ih =>
    intro k h hk e m hm
    obtain ⟨m, rfl⟩ : ∃ j, m = j + 1 := ⟨m - 1, by omega⟩
    obtain ⟨o1, o2⟩ := ho k (by omega)
    have hl := et_ht_le e
    rw [wX_whole_4]
    dsimp only
    rw [nI_clamp (by omega), o2]
    have go : ∀ t, t = et_tk (op k) → t ≤ 2 → wX_whole_39 post (wX_whole_4 post (nI n) f_conditions f_happened f_waiting f_lost f_time f_all f_oldHappened f_oldLost f_oldTime f_oldAll f_kept a_termOp a_termValue a_askedCode a_code a_oldCode a_askedArg a_arg a_oldArg a_askedLength a_stack a_question a_oldQuestion a_list a_oldList a_event a_oldEvent m) (nI h) (nI k) (nI t) (nI n) f_conditions f_happened f_waiting f_lost f_time f_all f_oldHappened f_oldLost f_oldTime f_oldAll f_kept a_termOp a_termValue a_askedCode a_code a_oldCode a_askedArg a_arg a_oldArg a_askedLength a_stack a_question a_oldQuestion a_list a_oldList a_event a_oldEvent := by
      intro t ht ht2
      unfold wX_whole_39
      refine pk_le t h (fun c => ?_) (fun c => ?_)
      · refine nm_r (et_hx c) (nm_r (nI_1 _) (ih (k + 1) (h + 1 - t) (by omega) ?_ m (by omega)))
        rw [et_ht, e]
        show (if h < et_tk (op k) then none else some (h + 1 - et_tk (op k))) = _
        rw [if_neg (by omega), ht]
      · refine h0 ?_
        rw [et_ht_none d (k + 1) (by omega) (by
          rw [et_ht, e]
          show (if h < et_tk (op k) then none else some (h + 1 - et_tk (op k))) = _
          rw [if_pos (by omega)])]
        simp
    refine br_f (nI_ge (by omega) (by omega)) ⟨vp_in_nI (by omega) (by omega), nm_e (pk_le 5 (op k) (fun c => pk_eq (op k) 12 (fun d => go 1 ?_ (by decide)) (fun d => go 2 ?_ (by decide))) (fun c => go 0 ?_ (by decide)))⟩
    · unfold et_tk; rw [if_neg (by omega), if_pos d]
    · unfold et_tk; rw [if_neg (by omega), if_neg d]
    · unfold et_tk; rw [if_pos c]
theorem xt_whole (hn : n ≤ 12) (hft : f_terms = nI n) (ho : ∀ j, j < n → op j ≤ 13 ∧ a_termOp j = nI (op j)) (h1 : et_ht op n = some 1 → post 1) (h0 : ¬ et_ht op n = some 1 → post 0) : wpX_whole post (f_terms, f_conditions, f_happened, f_waiting, f_lost, f_time, f_all, f_oldHappened, f_oldLost, f_oldTime, f_oldAll, f_kept, a_termOp, a_termValue, a_askedCode, a_code, a_oldCode, a_askedArg, a_arg, a_oldArg, a_askedLength, a_stack, a_question, a_oldQuestion, a_list, a_oldList, a_event, a_oldEvent) := by
  unfold wpX_whole
  exact ⟨n + 1, xt_whole_loop hn hft ho h1 h0 n 0 0 (by omega) rfl (n + 1) (by omega)⟩
end
section
variable {h_terms h_listed h_kept h_waits h_begun h_has h_out : Int32} {b_term b_list b_q b_ev b_g b_keptQ b_keptEv b_keptG b_waiting b_stack b_met b_view b_sorted b_breaks : Nat → Int32} {n : Nat} {op : Nat → Nat} {post : Int32 → SY → Prop}
theorem yt_cond_loop (hn : n ≤ 12) (hft : h_terms = nI n) (ho : ∀ j, j < n → op j ≤ 13 ∧ b_term (2 * j) = nI (op j))
    (h1 : et_ht op n = some 1 → (h_listed = 3 → post 0 (h_terms, h_listed, h_kept, h_waits, h_begun, h_has, h_out, b_term, b_list, b_q, b_ev, b_g, b_keptQ, b_keptEv, b_keptG, b_waiting, b_stack, b_met, b_view, b_sorted, b_breaks)) ∧ (¬ h_listed = 3 → (vp_in (25 * h_listed) 75 ∧ ∀ li, li = upd b_list (25 * h_listed).toNatClampNeg h_terms → ∃ n77 : Nat, wY_condition_77 post h_terms h_listed h_kept h_waits h_begun h_has h_out n77 0 b_term li b_q b_ev b_g b_keptQ b_keptEv b_keptG b_waiting b_stack b_met b_view b_sorted b_breaks))) (h0 : ¬ et_ht op n = some 1 → post 0 (h_terms, h_listed, h_kept, h_waits, h_begun, h_has, h_out, b_term, b_list, b_q, b_ev, b_g, b_keptQ, b_keptEv, b_keptG, b_waiting, b_stack, b_met, b_view, b_sorted, b_breaks)) :
    ∀ d k h, k + d = n → et_ht op k = some h → ∀ m, d < m → wY_condition_4 post h_terms h_listed h_kept h_waits h_begun h_has h_out b_term b_list b_q b_ev b_g b_keptQ b_keptEv b_keptG b_waiting b_stack b_met b_view b_sorted b_breaks m (nI h) (nI k) := by
  subst hft
  intro d
  induction d with
  | zero =>
    intro k h hk e m hm
    obtain ⟨m, rfl⟩ : ∃ j, m = j + 1 := ⟨m - 1, by omega⟩
    obtain rfl : k = n := by omega
    have := et_ht_le e
    rw [wY_condition_4]
    refine br_t (Int32.le_refl _) (pk_eq h 1 (fun c => h1 (by rw [e, c])) (fun c => h0 (fun z => c (by rw [e] at z; exact Option.some.inj z))))
  | succ d ih =>
    intro k h hk e m hm
    obtain ⟨m, rfl⟩ : ∃ j, m = j + 1 := ⟨m - 1, by omega⟩
    obtain ⟨o1, o2⟩ := ho k (by omega)
    have hl := et_ht_le e
    have q : (2 : Int32) * nI k = nI (2 * k) := by rw [← pk_mul]; rfl
    rw [wY_condition_4]
    dsimp only
    rw [q, nI_clamp (by omega), o2]
    have go : ∀ t, t = et_tk (op k) → t ≤ 2 → (nI t ≤ nI h → ∀ x1 : Int32, x1 = nI h + (1 - nI t) → ∀ x2 : Int32, x2 = nI k + 1 → wY_condition_4 post (nI n) h_listed h_kept h_waits h_begun h_has h_out b_term b_list b_q b_ev b_g b_keptQ b_keptEv b_keptG b_waiting b_stack b_met b_view b_sorted b_breaks m x1 x2) ∧ (¬ nI t ≤ nI h → post 0 ((nI n), h_listed, h_kept, h_waits, h_begun, h_has, h_out, b_term, b_list, b_q, b_ev, b_g, b_keptQ, b_keptEv, b_keptG, b_waiting, b_stack, b_met, b_view, b_sorted, b_breaks)) := by
      intro t ht ht2
      refine pk_le t h (fun c => ?_) (fun c => ?_)
      · refine nm_r (et_hx c) (nm_r (nI_1 _) (ih (k + 1) (h + 1 - t) (by omega) ?_ m (by omega)))
        rw [et_ht, e]
        show (if h < et_tk (op k) then none else some (h + 1 - et_tk (op k))) = _
        rw [if_neg (by omega), ht]
      · refine h0 ?_
        rw [et_ht_none d (k + 1) (by omega) (by
          rw [et_ht, e]
          show (if h < et_tk (op k) then none else some (h + 1 - et_tk (op k))) = _
          rw [if_pos (by omega)])]
        simp
    unfold wpY_takes
    refine br_f (nI_ge (by omega) (by omega)) ⟨vp_in_nI (by omega) (by omega), pk_le 5 (op k) (fun c => pk_eq (op k) 12 (fun d => go 1 ?_ (by decide)) (fun d => go 2 ?_ (by decide))) (fun c => go 0 ?_ (by decide))⟩
    · unfold et_tk; rw [if_neg (by omega), if_pos d]
    · unfold et_tk; rw [if_neg (by omega), if_neg d]
    · unfold et_tk; rw [if_pos c]
theorem yt_copy {C : Nat} (hC : C < 3) (hli : h_listed = nI C) (K : ∀ li, (∀ j, j < 24 → li (25 * C + 1 + j) = b_term j) → (∀ j, j ≤ 25 * C → li j = b_list j) → post 1 (0, (nI (C + 1)), h_kept, h_waits, h_begun, h_has, h_out, b_term, li, b_q, b_ev, b_g, b_keptQ, b_keptEv, b_keptG, b_waiting, b_stack, b_met, b_view, b_sorted, b_breaks)) :
    ∀ (d k : Nat) (li : Nat → Int32), k + d = 24 → (∀ j, j < k → li (25 * C + 1 + j) = b_term j) → (∀ j, j ≤ 25 * C → li j = b_list j) → ∀ m, d < m → wY_condition_77 post h_terms h_listed h_kept h_waits h_begun h_has h_out m (nI k) b_term li b_q b_ev b_g b_keptQ b_keptEv b_keptG b_waiting b_stack b_met b_view b_sorted b_breaks := by
  subst hli
  intro d
  induction d with
  | zero =>
    intro k li hk g1 g2 m hm
    obtain ⟨m, rfl⟩ : ∃ j, m = j + 1 := ⟨m - 1, by omega⟩
    obtain rfl : k = 24 := by omega
    rw [wY_condition_77]
    exact br_t (Int32.le_refl _) (nm_r (nI_1 _) (K li g1 g2))
  | succ d ih =>
    intro k li hk g1 g2 m hm
    obtain ⟨m, rfl⟩ : ∃ j, m = j + 1 := ⟨m - 1, by omega⟩
    have q : (25 : Int32) * nI C + 1 + nI k = nI (25 * C + 1 + k) := by rw [← nI_add, ← nI_add, ← pk_mul]; rfl
    rw [wY_condition_77]
    dsimp only
    rw [q, nI_clamp (by omega), nI_clamp (by omega)]
    refine br_f (nI_ge (b := 24) (by omega) (by decide)) ⟨vp_in_nI (by omega) (by omega), vp_in_nI (by omega) (by omega), nm_e (nm_r (nI_1 _) (ih (k + 1) _ (by omega) (fun j hj => ?_) (fun j hj => ?_) m (by omega)))⟩
    · by_cases c : j = k
      · subst c; exact pk_us
      · rw [pk_un (by omega)]; exact g1 j (by omega)
    · rw [pk_un (by omega)]; exact g2 j hj
end
end
section
/-! term, condition -/
theorem i_vc_term {k : Nat} {u : SX} {v : SY} (I : i_Rel k u v) (hk : k + 6 ≤ 3072) (v1 : Int32) (v2 : Int32) : wpX_term (fun r u' => wpY_term (fun r' v' => r' = r ∧ i_Rel (k + 6) u' v') v v1 v2) u v1 v2 := by
  have I := i_up I
  obtain ⟨f_terms, f_conditions, f_happened, f_waiting, f_lost, f_time, f_all, f_oldHappened, f_oldLost, f_oldTime, f_oldAll, f_kept, a_termOp, a_termValue, a_askedCode, a_code, a_oldCode, a_askedArg, a_arg, a_oldArg, a_askedLength, a_stack, a_question, a_oldQuestion, a_list, a_oldList, a_event, a_oldEvent⟩ := u
  obtain ⟨h_terms, h_listed, h_kept, h_waits, h_begun, h_has, h_out, b_term, b_list, b_q, b_ev, b_g, b_keptQ, b_keptEv, b_keptG, b_waiting, b_stack, b_met, b_view, b_sorted, b_breaks⟩ := v
  have I' := I
  obtain ⟨⟨n, n1, n2, n3, n4⟩, a2, a3, a4, a5, a6, a7, a8, a9⟩ := I
  unfold wpX_term wpX_within
  by_cases c1 : v1 < 0
  · exact br_t c1 (br_t rfl (br_t c1 ⟨rfl, I'⟩))
  by_cases c2 : 13 < v1
  · exact br_f c1 (br_t c2 (br_t rfl (br_f c1 (br_t c2 ⟨rfl, I'⟩))))
  refine br_f c1 (br_f c2 (br_f (by decide) ?_))
  by_cases c3 : n = 12
  · subst c3
    exact br_t n1 (br_f c1 (br_f c2 (br_t n2 ⟨rfl, I'⟩)))
  obtain ⟨o, o1, o2, rfl⟩ := ie_rng (a := 0) (b := 13) (by decide) (by decide) c1 c2
  subst n1 n2
  have nc : ¬ nI n = 12 := ec_neL (b := 12) c3 (by omega) (by decide)
  have q1 : (2 : Int32) * nI n = nI (2 * n) := by rw [← pk_mul]; rfl
  have q2 : nI (2 * n) + 1 = nI (2 * n + 1) := nI_add _ 1
  refine br_f nc ?_
  rw [nI_clamp (by omega), ie_nar2 (by omega)]
  refine ⟨vp_in_nI (by omega) (by omega), nm_e (nm_r (nI_1 _) ⟨vp_in_nI (by omega) (by omega), nm_e (br_f c1 (br_f c2 (br_f nc ?_)))⟩)⟩
  rw [q1, q2, nI_clamp (by omega), nI_clamp (by omega)]
  refine ⟨vp_in_nI (by omega) (by omega), nm_e ⟨vp_in_nI (by omega) (by omega), nm_e (nm_r (nI_1 _) ⟨rfl, ⟨n + 1, rfl, rfl, by omega, fun j hj => ?_⟩, a2, a3, a4, a5, a6, a7, a8, a9⟩)⟩⟩
  by_cases c : j = n
  · subst c
    exact ⟨⟨o, o2, pk_us, (pk_un (by omega)).trans pk_us⟩, pk_us.trans pk_us.symm⟩
  · obtain ⟨⟨o', p1, p2, p3⟩, p4⟩ := n4 j (by omega)
    exact ⟨⟨o', p1, (pk_un c).trans p2, (pk_un (by omega)).trans ((pk_un (by omega)).trans p3)⟩, (pk_un c).trans (p4.trans ((pk_un (by omega)).trans (pk_un (by omega))).symm)⟩
section
variable {f_terms f_conditions f_happened f_waiting f_lost f_time f_all f_oldHappened f_oldLost f_oldTime f_oldAll f_kept : Int32} {a_termOp a_termValue a_askedCode a_code a_oldCode a_askedArg a_arg a_oldArg a_askedLength a_stack a_question a_oldQuestion a_list a_oldList a_event a_oldEvent : Nat → Int32} {n C : Nat} {op : Nat → Nat} {post : Int32 → SX → Prop}
theorem xt_cond_loop (hn : n ≤ 12) (hft : f_terms = nI n) (hC : C < 3) (hfc : f_conditions = nI C) (ho : ∀ j, j < n → op j ≤ 13 ∧ a_termOp j = nI (op j)) (ok : et_ht op n = some 1)
    (K : ∀ cd ar len, len ≤ n → (∀ i, i < len → ∃ o, o ≤ 33 ∧ cd (12 * C + i) = nI o) → (∀ fe, ec_run fe (fun i => cd (12 * C + i)) (fun i => ar (12 * C + i)) len = ec_run fe a_termOp a_termValue n) → (∀ j, j < 12 * C → cd j = a_askedCode j ∧ ar j = a_askedArg j) → ie_b cd →
      post 1 (0, (nI (C + 1)), f_happened, f_waiting, f_lost, f_time, f_all, f_oldHappened, f_oldLost, f_oldTime, f_oldAll, f_kept, a_termOp, a_termValue, cd, a_code, a_oldCode, ar, a_arg, a_oldArg, (upd a_askedLength C (nI len)), a_stack, a_question, a_oldQuestion, a_list, a_oldList, a_event, a_oldEvent)) :
    ∀ (d k len : Nat) (cd ar : Nat → Int32), k + d = n → len ≤ k → (∀ i, i < len → ∃ o, o ≤ 33 ∧ cd (12 * C + i) = nI o) → (∀ fe, ec_run fe (fun i => cd (12 * C + i)) (fun i => ar (12 * C + i)) len = ec_run fe a_termOp a_termValue k) → (∀ j, j < 12 * C → cd j = a_askedCode j ∧ ar j = a_askedArg j) → ie_b cd →
      ∀ m, d < m → wX_condition_29 post (nI (12 * C)) m (nI (12 * C + len)) (nI k) f_terms f_conditions f_happened f_waiting f_lost f_time f_all f_oldHappened f_oldLost f_oldTime f_oldAll f_kept a_termOp a_termValue cd a_code a_oldCode ar a_arg a_oldArg a_askedLength a_stack a_question a_oldQuestion a_list a_oldList a_event a_oldEvent := by
  subst hft hfc
  intro d
  induction d with
  | zero =>
    intro k len cd ar hk hlen hv hr hf hb m hm
    obtain ⟨m, rfl⟩ : ∃ j, m = j + 1 := ⟨m - 1, by omega⟩
    obtain rfl : k = n := by omega
    have q : nI (12 * C + len) - nI (12 * C) = nI len := by rw [pk_sub (by omega)]; exact congrArg nI (by omega)
    rw [wX_condition_29]
    dsimp only
    rw [q, nI_clamp (by omega)]
    exact br_t (Int32.le_refl _) (nm_r (nI_1 _) ⟨vp_in_nI (by omega) (by omega), nm_e (K cd ar len hlen hv hr hf hb)⟩)
  | succ d ih =>
    intro k len cd ar hk hlen hv hr hf hb m hm
    obtain ⟨m, rfl⟩ : ∃ j, m = j + 1 := ⟨m - 1, by omega⟩
    obtain ⟨o1, o2⟩ := ho k (by omega)
    rw [wX_condition_29]
    dsimp only
    rw [show (nI k).toNatClampNeg = k from nI_clamp (by omega), o2]
    refine br_f (nI_ge (by omega) (by omega)) ⟨vp_in_nI (by omega) (by omega), vp_in_nI (by omega) (by omega), ?_⟩
    refine xt_translate (B := 12 * C) (n := len) (o := op k) (by omega) (by omega) o1 hv hb (fun fe => ?_) (fun cd' ar' n' R => ?_)
    · obtain ⟨h1, e1⟩ := et_ht_pre ok (show k + 1 ≤ n by omega)
      obtain ⟨st', s1, _⟩ := et_ht_run (fe := fe) (ac := a_termValue) ho (k + 1) h1 (by omega) e1
      obtain ⟨st, s2, s3⟩ := et_run_s s1
      rw [o2] at s3
      exact ⟨st, st', (hr fe).trans s2, s3⟩
    · obtain ⟨r1, r2, r3, r4, r5⟩ := R
      refine nm_r (nI_1 _) (ih (k + 1) n' cd' ar' (by omega) (by omega) r2 (fun fe => ?_) (fun j hj => ?_) r5 m (by omega))
      · rw [r3]
        dsimp only
        rw [hr, ec_run, o2]
      · obtain ⟨g1, g2⟩ := r4 j (Or.inl hj)
        obtain ⟨g3, g4⟩ := hf j hj
        exact ⟨g1.trans g3, g2.trans g4⟩
end
theorem i_vc_condition {k : Nat} {u : SX} {v : SY} (I : i_Rel k u v) (hk : k + 6 ≤ 3072) : wpX_condition (fun r u' => wpY_condition (fun r' v' => r' = r ∧ i_Rel (k + 6) u' v') v) u := by
  have I := i_up I
  obtain ⟨f_terms, f_conditions, f_happened, f_waiting, f_lost, f_time, f_all, f_oldHappened, f_oldLost, f_oldTime, f_oldAll, f_kept, a_termOp, a_termValue, a_askedCode, a_code, a_oldCode, a_askedArg, a_arg, a_oldArg, a_askedLength, a_stack, a_question, a_oldQuestion, a_list, a_oldList, a_event, a_oldEvent⟩ := u
  obtain ⟨h_terms, h_listed, h_kept, h_waits, h_begun, h_has, h_out, b_term, b_list, b_q, b_ev, b_g, b_keptQ, b_keptEv, b_keptG, b_waiting, b_stack, b_met, b_view, b_sorted, b_breaks⟩ := v
  have I' := I
  obtain ⟨⟨n, n1, n2, n3, n4⟩, ⟨C, d1, d2, d3, d4⟩, a3, a4, a5, a6, a7, a8, a9⟩ := I
  have ho : ∀ j, j < n → (a_termOp j).toNatClampNeg ≤ 13 ∧ a_termOp j = nI (a_termOp j).toNatClampNeg := by
    intro j hj
    obtain ⟨⟨o, p1, p2, p3⟩, _⟩ := n4 j hj
    rw [p2, nI_clamp (by omega)]
    exact ⟨p1, rfl⟩
  have ho2 : ∀ j, j < n → (a_termOp j).toNatClampNeg ≤ 13 ∧ b_term (2 * j) = nI (a_termOp j).toNatClampNeg := by
    intro j hj
    obtain ⟨⟨o, p1, p2, p3⟩, _⟩ := n4 j hj
    rw [p2, nI_clamp (by omega)]
    exact ⟨p1, p3⟩
  have ybad : ∀ (P : Int32 → SY → Prop), (C = 3 ∨ ¬ et_ht (fun j => (a_termOp j).toNatClampNeg) n = some 1) → P 0 (h_terms, h_listed, h_kept, h_waits, h_begun, h_has, h_out, b_term, b_list, b_q, b_ev, b_g, b_keptQ, b_keptEv, b_keptG, b_waiting, b_stack, b_met, b_view, b_sorted, b_breaks) → wpY_condition P (h_terms, h_listed, h_kept, h_waits, h_begun, h_has, h_out, b_term, b_list, b_q, b_ev, b_g, b_keptQ, b_keptEv, b_keptG, b_waiting, b_stack, b_met, b_view, b_sorted, b_breaks) := by
    intro P h hp
    unfold wpY_condition
    refine ⟨n + 1, yt_cond_loop (op := fun j => (a_termOp j).toNatClampNeg) n3 n2 ho2 (fun ok => ?_) (fun _ => hp) n 0 0 (by omega) rfl (n + 1) (by omega)⟩
    rcases h with h | h
    · subst h; exact br_t d2 hp
    · exact absurd ok h
  unfold wpX_condition
  by_cases c3 : C = 3
  · exact br_t (by rw [d1, c3]; rfl) (ybad _ (Or.inl c3) ⟨rfl, I'⟩)
  have nc : ¬ nI C = 3 := ec_neL (b := 3) c3 (by omega) (by decide)
  refine br_f (by rw [d1]; exact nc) ?_
  refine xt_whole (op := fun j => (a_termOp j).toNatClampNeg) n3 n1 ho (fun ok => br_f (by decide) ?_) (fun nok => br_t rfl (ybad _ (Or.inr nok) ⟨rfl, I'⟩))
  have qb : (12 : Int32) * f_conditions = nI (12 * C) := by rw [d1, ← pk_mul]; rfl
  refine nm_r qb ⟨n + 1, ?_⟩
  refine xt_cond_loop (op := fun j => (a_termOp j).toNatClampNeg) n3 n1 (show C < 3 by omega) d1 ho ok (fun cd ar len hlen hv hr hf hb => ?_) n 0 0 a_askedCode a_askedArg (by omega) (by omega) (fun i hi => by omega) (fun fe => rfl) (fun j hj => ⟨rfl, rfl⟩) a3 (n + 1) (by omega)
  unfold wpY_condition
  refine ⟨n + 1, yt_cond_loop (op := fun j => (a_termOp j).toNatClampNeg) n3 n2 ho2 (fun _ => br_f (by rw [d2]; exact nc) ?_) (fun nok => absurd ok nok) n 0 0 (by omega) rfl (n + 1) (by omega)⟩
  have q25 : (25 : Int32) * h_listed = nI (25 * C) := by rw [d2, ← pk_mul]; rfl
  rw [q25, nI_clamp (by omega)]
  refine ⟨vp_in_nI (by omega) (by omega), nm_e ⟨25, ?_⟩⟩
  have hC3 : C < 3 := by omega
  have go := yt_copy (post := fun r' v' => r' = 1 ∧ i_Rel (k + 6) (0, (nI (C + 1)), f_happened, f_waiting, f_lost, f_time, f_all, f_oldHappened, f_oldLost, f_oldTime, f_oldAll, f_kept, a_termOp, a_termValue, cd, a_code, a_oldCode, ar, a_arg, a_oldArg, (upd a_askedLength C (nI len)), a_stack, a_question, a_oldQuestion, a_list, a_oldList, a_event, a_oldEvent) v') (h_terms := h_terms) (h_listed := h_listed) (h_kept := h_kept) (h_waits := h_waits) (h_begun := h_begun) (h_has := h_has) (h_out := h_out) (b_term := b_term) (b_list := upd b_list (25 * C) h_terms) (b_q := b_q) (b_ev := b_ev) (b_g := b_g) (b_keptQ := b_keptQ) (b_keptEv := b_keptEv) (b_keptG := b_keptG) (b_waiting := b_waiting) (b_stack := b_stack) (b_met := b_met) (b_view := b_view) (b_sorted := b_sorted) (b_breaks := b_breaks) hC3 d2 (fun li g1 g2 => ⟨rfl, ⟨0, rfl, rfl, by decide, fun j hj => by omega⟩, ⟨C + 1, rfl, rfl, by omega, fun c hc => ?_⟩, hb, a4, a5, a6, a7, a8, a9⟩) 24 0 (upd b_list (25 * C) h_terms) (by omega) (fun j hj => by omega) (fun j _ => rfl) 25 (by omega)
  · exact go
  · by_cases z : c = C
    · subst z
      refine ⟨len, n, pk_us, by omega, hv, ?_, n3, fun i hi => ?_, fun fe => ?_⟩
      · rw [g2 _ (Nat.le_refl _), pk_us, n2]
      · obtain ⟨p1, p2⟩ := ho2 i hi
        refine ⟨_, p1, ?_⟩
        rw [g1 (2 * i) (by omega)]
        exact p2
      · obtain ⟨st, s1, s2⟩ := et_ht_run (fe := fe) (ac := a_termValue) ho n 1 (Nat.le_refl _) ok
        cases st with
        | nil => cases s2
        | cons w r =>
          cases r with
          | cons _ _ => simp at s2
          | nil =>
            refine ⟨w, (hr fe).trans s1, ?_⟩
            rw [← s1]
            refine ec_run_congr (fun i hi => ⟨?_, ?_⟩)
            · rw [g1 (2 * i) (by omega)]
              exact (ho2 i hi).2.trans (ho i hi).2.symm
            · rw [show 25 * c + 2 + 2 * i = 25 * c + 1 + (2 * i + 1) by omega, g1 (2 * i + 1) (by omega)]
              exact (n4 i hi).2.symm
    · obtain ⟨N, m, p1, p2, p3, p4, p5, p6, p7⟩ := d4 c (by omega)
      have gc : ∀ j, j < 25 * C → li j = b_list j := fun j hj => (g2 j (by omega)).trans (pk_un (by omega))
      refine ⟨N, m, (pk_un z).trans p1, p2, fun i hi => ?_, (gc _ (by omega)).trans p4, p5, fun i hi => ?_, fun fe => ?_⟩
      · obtain ⟨o, q1, q2⟩ := p3 i hi
        exact ⟨o, q1, (hf _ (by omega)).1.trans q2⟩
      · obtain ⟨o, q1, q2⟩ := p6 i hi
        exact ⟨o, q1, (gc _ (by omega)).trans q2⟩
      · obtain ⟨w, w1, w2⟩ := p7 fe
        refine ⟨w, ?_, ?_⟩
        · rw [← w1]
          exact ec_run_congr (fun i hi => ⟨(hf _ (by omega)).1, (hf _ (by omega)).2⟩)
        · rw [← w2]
          exact ec_run_congr (fun i hi => ⟨gc _ (by omega), gc _ (by omega)⟩)
end
section
/-! set, both sides -/
theorem ed_qw {a b : Nat → Int32} {s k : Nat} {v : Int32} (hs : s < 6) (hk : k < 64) : upd (ed_sp a (64 * s) 64 b) (nI (64 * s) + nI k).toNatClampNeg v = ed_sp a (64 * s) 64 (upd b k v) := by
  rw [nI_add, nI_clamp (by omega), ed_sp_upd hk]
theorem ed_qi {s k : Nat} (hs : s < 6) (hk : k < 64) : vp_in (nI (64 * s) + nI k) 384 := by
  rw [nI_add]; exact vp_in_nI (by omega) (by omega)
theorem ed_q2 {s : Nat} {k : Int32} : (64 : Int32) * nI s + k = nI (64 * s) + k := by
  rw [show (64 : Int32) * nI s = nI (64 * s) by rw [← pk_mul]; rfl]
theorem ed_yw {a b : Nat → Int32} {s k : Nat} {v : Int32} (hs : s < 6) (hk : k < 100) : upd (ed_sp a (100 * s) 100 b) ((100 : Int32) * nI s + nI k).toNatClampNeg v = ed_sp a (100 * s) 100 (upd b k v) := by
  rw [show (100 : Int32) * nI s + nI k = nI (100 * s + k) by rw [← nI_add, ← pk_mul]; rfl, nI_clamp (by omega), ed_sp_upd hk]
theorem ed_yi {s k : Nat} (hs : s < 6) (hk : k < 100) : vp_in ((100 : Int32) * nI s + nI k) 600 := by
  rw [show (100 : Int32) * nI s + nI k = nI (100 * s + k) by rw [← nI_add, ← pk_mul]; rfl]; exact vp_in_nI (by omega) (by omega)
theorem ed_yw0 {a b : Nat → Int32} {s : Nat} {v : Int32} (hs : s < 6) : upd (ed_sp a (100 * s) 100 b) ((100 : Int32) * nI s).toNatClampNeg v = ed_sp a (100 * s) 100 (upd b 0 v) := by
  rw [show (100 : Int32) * nI s = nI (100 * s) by rw [← pk_mul]; rfl, nI_clamp (by omega), ed_sp_upd0 (by decide)]
theorem ed_yi0 {s : Nat} (hs : s < 6) : vp_in ((100 : Int32) * nI s) 600 := by
  rw [show (100 : Int32) * nI s = nI (100 * s) by rw [← pk_mul]; rfl]; exact vp_in_nI (by omega) (by omega)
def xi_set (kind size other fl : Int32) (C : Nat) (ln qs : Nat → Int32) : Prop :=
  qs 0 = kind ∧ qs 2 = size ∧ qs 3 = other ∧ qs 5 = fl ∧ qs 7 = -2147483648 ∧ qs 8 = 1 ∧ qs 9 = 4 ∧ qs 15 = nI C ∧ (∀ c, c < C → qs (16 + c) = ln c) ∧ (∀ j, (10 ≤ j ∧ j < 15) ∨ (36 ≤ j ∧ j < 40) → qs j = 0)
section
variable {f_terms f_conditions f_happened f_waiting f_lost f_time f_all f_oldHappened f_oldLost f_oldTime f_oldAll f_kept : Int32} {a_termOp a_termValue a_askedCode a_code a_oldCode a_askedArg a_arg a_oldArg a_askedLength a_stack a_question a_oldQuestion a_list a_oldList a_event a_oldEvent : Nat → Int32} {s C : Nat} {p1 p2 p3 p4 : Int32} {post : SX → Prop}
theorem xi_173 (hs : s < 6) (ha : ie_b a_askedCode) (K : ∀ cd ar, (∀ j, j < 36 → cd (36 * s + j) = a_askedCode j ∧ ar (36 * s + j) = a_askedArg j) → (∀ j, j < 36 * s ∨ 36 * s + 36 ≤ j → cd j = a_code j ∧ ar j = a_arg j) → ie_b cd → post (f_terms, 0, f_happened, f_waiting, f_lost, f_time, f_all, f_oldHappened, f_oldLost, f_oldTime, f_oldAll, f_kept, a_termOp, a_termValue, a_askedCode, cd, a_oldCode, a_askedArg, ar, a_oldArg, a_askedLength, a_stack, a_question, a_oldQuestion, a_list, a_oldList, a_event, a_oldEvent)) :
    ∀ (d k : Nat) (cd ar : Nat → Int32), k + d = 36 → (∀ j, j < k → cd (36 * s + j) = a_askedCode j ∧ ar (36 * s + j) = a_askedArg j) → (∀ j, j < 36 * s ∨ 36 * s + 36 ≤ j → cd j = a_code j ∧ ar j = a_arg j) → ie_b cd → ∀ m, d < m →
      wX_set_173 post (nI s) f_terms f_conditions f_happened f_waiting f_lost f_time f_all f_oldHappened f_oldLost f_oldTime f_oldAll f_kept m (nI k) a_termOp a_termValue a_askedCode cd a_oldCode a_askedArg ar a_oldArg a_askedLength a_stack a_question a_oldQuestion a_list a_oldList a_event a_oldEvent := by
  intro d
  induction d with
  | zero =>
    intro k cd ar hk g1 g2 hb m hm
    obtain ⟨m, rfl⟩ : ∃ j, m = j + 1 := ⟨m - 1, by omega⟩
    obtain rfl : k = 36 := by omega
    rw [wX_set_173]
    exact br_t (Int32.le_refl _) (K cd ar g1 g2 hb)
  | succ d ih =>
    intro k cd ar hk g1 g2 hb m hm
    obtain ⟨m, rfl⟩ : ∃ j, m = j + 1 := ⟨m - 1, by omega⟩
    have q : (36 : Int32) * nI s + nI k = nI (36 * s + k) := by rw [← nI_add, ← pk_mul]; rfl
    rw [wX_set_173]
    dsimp only
    rw [q, nI_clamp (by omega), nI_clamp (by omega), ha k]
    refine br_f (nI_ge (b := 36) (by omega) (by decide)) ⟨vp_in_nI (by omega) (by omega), vp_in_nI (by omega) (by omega), nm_e ⟨vp_in_nI (by omega) (by omega), vp_in_nI (by omega) (by omega), nm_e (nm_r (nI_1 _) (ih (k + 1) _ _ (by omega) (fun j hj => ?_) (fun j hj => ?_) (fun j => ?_) m (by omega)))⟩⟩
    · by_cases c : j = k
      · subst c; exact ⟨pk_us, pk_us⟩
      · rw [pk_un (by omega), pk_un (by omega)]; exact g1 j (by omega)
    · rw [pk_un (by omega), pk_un (by omega)]; exact g2 j hj
    · by_cases c : j = 36 * s + k
      · subst c; rw [pk_us]; exact ha k
      · rw [pk_un c]; exact hb j
theorem xi_135 {zb : Nat → Int32} (hs : s < 6) (hC : C ≤ 3) (hfc : f_conditions = nI C) (K : ∀ qs, (∀ c, c < C → qs (16 + c) = a_askedLength c) → (∀ j, j < 16 ∨ 19 ≤ j → qs j = zb j) → ∃ n, wX_set_173 post (nI s) f_terms f_conditions f_happened f_waiting f_lost f_time f_all f_oldHappened f_oldLost f_oldTime f_oldAll f_kept n 0 a_termOp a_termValue a_askedCode a_code a_oldCode a_askedArg a_arg a_oldArg a_askedLength a_stack (ed_sp a_question (64 * s) 64 qs) a_oldQuestion a_list a_oldList a_event a_oldEvent) :
    ∀ (d k : Nat) (qs : Nat → Int32), k + d = C → (∀ c, c < k → qs (16 + c) = a_askedLength c) → (∀ j, j < 16 ∨ 19 ≤ j → qs j = zb j) → ∀ m, d < m →
      wX_set_135 post (nI s) (nI (64 * s)) f_terms f_conditions f_happened f_waiting f_lost f_time f_all f_oldHappened f_oldLost f_oldTime f_oldAll f_kept m (nI k) a_termOp a_termValue a_askedCode a_code a_oldCode a_askedArg a_arg a_oldArg a_askedLength a_stack (ed_sp a_question (64 * s) 64 qs) a_oldQuestion a_list a_oldList a_event a_oldEvent := by
  subst hfc
  intro d
  induction d with
  | zero =>
    intro k qs hk g1 g2 m hm
    obtain ⟨m, rfl⟩ : ∃ j, m = j + 1 := ⟨m - 1, by omega⟩
    obtain rfl : k = C := by omega
    rw [wX_set_135]
    exact br_t (Int32.le_refl _) (K qs g1 g2)
  | succ d ih =>
    intro k qs hk g1 g2 m hm
    obtain ⟨m, rfl⟩ : ∃ j, m = j + 1 := ⟨m - 1, by omega⟩
    have q : nI (64 * s) + 16 + nI k = nI (64 * s) + nI (16 + k) := by rw [← nI_add 16 k, ← Int32.add_assoc]; rfl
    rw [wX_set_135]
    dsimp only
    rw [q, ed_qw hs (by omega), nI_clamp (by omega)]
    refine br_f (nI_ge (by omega) (by omega)) ⟨vp_in_nI (by omega) (by omega), ed_qi hs (by omega), nm_e (nm_r (nI_1 _) (ih (k + 1) _ (by omega) (fun c hc => ?_) (fun j hj => ?_) m (by omega)))⟩
    · by_cases z : c = k
      · subst z; exact pk_us
      · rw [pk_un (by omega)]; exact g1 c (by omega)
    · rw [pk_un (by omega)]; exact g2 j hj
theorem xi_10 (hs : s < 6) (K : ∀ qs, (∀ j, j < 64 → qs j = 0) → wX_set_10 post (nI s) p1 p2 p3 p4 (nI (64 * s)) f_terms f_conditions f_happened f_waiting f_lost f_time f_all f_oldHappened f_oldLost f_oldTime f_oldAll f_kept 1 (nI (64 * s + 64)) a_termOp a_termValue a_askedCode a_code a_oldCode a_askedArg a_arg a_oldArg a_askedLength a_stack (ed_sp a_question (64 * s) 64 qs) a_oldQuestion a_list a_oldList a_event a_oldEvent) :
    ∀ (d k : Nat) (qs : Nat → Int32), k + d = 64 → (∀ j, j < k → qs j = 0) → wX_set_10 post (nI s) p1 p2 p3 p4 (nI (64 * s)) f_terms f_conditions f_happened f_waiting f_lost f_time f_all f_oldHappened f_oldLost f_oldTime f_oldAll f_kept (d + 1) (nI (64 * s + k)) a_termOp a_termValue a_askedCode a_code a_oldCode a_askedArg a_arg a_oldArg a_askedLength a_stack (ed_sp a_question (64 * s) 64 qs) a_oldQuestion a_list a_oldList a_event a_oldEvent := by
  intro d
  induction d with
  | zero =>
    intro k qs hk g
    obtain rfl : k = 64 := by omega
    exact K qs g
  | succ d ih =>
    intro k qs hk g
    have q : nI (64 * s) + 64 = nI (64 * s + 64) := nI_add _ 64
    rw [wX_set_10]
    dsimp only
    rw [q, nI_clamp (by omega), ed_sp_upd (by omega)]
    refine br_f (nI_ge (by omega) (by omega)) ⟨vp_in_nI (by omega) (by omega), nm_e (nm_r (nI_1 _) (ih (k + 1) _ (by omega) (fun j hj => ?_)))⟩
    by_cases c : j = k
    · subst c; exact pk_us
    · rw [pk_un c]; exact g j (by omega)
theorem xi_wpset (hs : s < 6) (hC : C ≤ 3) (hfc : f_conditions = nI C) (ha : ie_b a_askedCode) (hb : ie_b a_code)
    (K : ∀ qs cd ar, xi_set p1 p2 p3 (if p4 = 0 then 0 else 1) C a_askedLength qs → (∀ j, j < 36 → cd (36 * s + j) = a_askedCode j ∧ ar (36 * s + j) = a_askedArg j) → (∀ j, j < 36 * s ∨ 36 * s + 36 ≤ j → cd j = a_code j ∧ ar j = a_arg j) → ie_b cd →
      post (f_terms, 0, f_happened, f_waiting, f_lost, f_time, f_all, f_oldHappened, f_oldLost, f_oldTime, f_oldAll, f_kept, a_termOp, a_termValue, a_askedCode, cd, a_oldCode, a_askedArg, ar, a_oldArg, a_askedLength, a_stack, (ed_sp a_question (64 * s) 64 qs), a_oldQuestion, a_list, a_oldList, a_event, a_oldEvent)) : wpX_set post (f_terms, f_conditions, f_happened, f_waiting, f_lost, f_time, f_all, f_oldHappened, f_oldLost, f_oldTime, f_oldAll, f_kept, a_termOp, a_termValue, a_askedCode, a_code, a_oldCode, a_askedArg, a_arg, a_oldArg, a_askedLength, a_stack, a_question, a_oldQuestion, a_list, a_oldList, a_event, a_oldEvent) (nI s) p1 p2 p3 p4 := by
  have q0 : (64 : Int32) * nI s = nI (64 * s) := by rw [← pk_mul]; rfl
  have e1 := ed_sp_of (a := a_question) (B := 64 * s) (n := 64) (b := fun j => a_question (64 * s + j)) (fun _ _ => rfl)
  unfold wpX_set
  refine nm_r q0 ⟨64 + 1, ?_⟩
  have go := xi_10 (post := post) (p1 := p1) (p2 := p2) (p3 := p3) (p4 := p4) (f_terms := f_terms) (f_conditions := f_conditions) (f_happened := f_happened) (f_waiting := f_waiting) (f_lost := f_lost) (f_time := f_time) (f_all := f_all) (f_oldHappened := f_oldHappened) (f_oldLost := f_oldLost) (f_oldTime := f_oldTime) (f_oldAll := f_oldAll) (f_kept := f_kept) (a_termOp := a_termOp) (a_termValue := a_termValue) (a_askedCode := a_askedCode) (a_code := a_code) (a_oldCode := a_oldCode) (a_askedArg := a_askedArg) (a_arg := a_arg) (a_oldArg := a_oldArg) (a_askedLength := a_askedLength) (a_stack := a_stack) (a_question := a_question) (a_oldQuestion := a_oldQuestion) (a_list := a_list) (a_oldList := a_oldList) (a_event := a_event) (a_oldEvent := a_oldEvent) hs (fun qs hz => ?_) 64 0 (fun j => a_question (64 * s + j)) (by omega) (fun j hj => by omega)
  · rw [e1] at go
    exact go
  · have l83 : ∀ fl : Int32, fl = (if p4 = 0 then 0 else 1) → wX_set_83 post (nI s) (nI (64 * s)) fl (nI (64 * s) + 5) f_terms f_conditions f_happened f_waiting f_lost f_time f_all f_oldHappened f_oldLost f_oldTime f_oldAll f_kept a_termOp a_termValue a_askedCode a_code a_oldCode a_askedArg a_arg a_oldArg a_askedLength a_stack (ed_sp a_question (64 * s) 64 (upd (upd (upd qs 0 p1) 2 p2) 3 p3)) a_oldQuestion a_list a_oldList a_event a_oldEvent := by
      intro fl hfl
      unfold wX_set_83
      refine ⟨ed_qi hs (k := 5) (by decide), nm_r (ed_qw hs (k := 5) (by decide)) ⟨ed_qi hs (k := 7) (by decide), nm_r (ed_qw hs (k := 7) (by decide)) ⟨ed_qi hs (k := 8) (by decide), nm_r (ed_qw hs (k := 8) (by decide)) ⟨ed_qi hs (k := 9) (by decide), nm_r (ed_qw hs (k := 9) (by decide)) ⟨ed_qi hs (k := 15) (by decide), nm_r (ed_qw hs (k := 15) (by decide)) ⟨C + 1, ?_⟩⟩⟩⟩⟩⟩
      refine xi_135 (C := C) (zb := upd (upd (upd (upd (upd (upd (upd (upd qs 0 p1) 2 p2) 3 p3) 5 fl) 7 (-2147483648)) 8 1) 9 4) 15 f_conditions) hs hC hfc (fun qs2 g1 g2 => ⟨37, ?_⟩) C 0 _ (by omega) (fun c hc => by omega) (fun _ _ => rfl) (C + 1) (by omega)
      refine xi_173 (a_question := ed_sp a_question (64 * s) 64 qs2) hs ha (fun cd ar h1 h2 h3 => K qs2 cd ar ?_ h1 h2 h3) 36 0 a_code a_arg (by omega) (fun j hj => by omega) (fun j hj => ⟨rfl, rfl⟩) hb 37 (by omega)
      refine ⟨g2 0 (by decide), g2 2 (by decide), g2 3 (by decide), (g2 5 (by decide)).trans hfl, g2 7 (by decide), g2 8 (by decide), g2 9 (by decide), (g2 15 (by decide)).trans hfc, g1, fun j hj => ?_⟩
      rw [g2 j (by omega), pk_un (by omega), pk_un (by omega), pk_un (by omega), pk_un (by omega), pk_un (by omega), pk_un (by omega), pk_un (by omega), pk_un (by omega)]
      exact hz j (by omega)
    have q : nI (64 * s) + 64 = nI (64 * s + 64) := nI_add _ 64
    rw [wX_set_10]
    refine br_t (by rw [q]; exact Int32.le_refl _) ⟨ed_qi hs (k := 0) (by decide), nm_r (ed_qw hs (k := 0) (by decide)) ⟨ed_qi hs (k := 2) (by decide), nm_r (ed_qw hs (k := 2) (by decide)) ⟨ed_qi hs (k := 3) (by decide), nm_r (ed_qw hs (k := 3) (by decide)) (br_c (fun c => ?_) (fun c => ?_))⟩⟩⟩
    · exact l83 0 (by rw [if_pos c])
    · exact l83 1 (by rw [if_neg c])
end
def yi_set (sort a b c g0 : Int32) (C : Nat) (li y : Nat → Int32) : Prop :=
  y 0 = sort ∧ y 1 = a ∧ y 2 = b ∧ y 3 = c ∧ y 4 = 0 ∧ y 6 = -2147483648 ∧ y 7 = 1 ∧ y 8 = 4 ∧ y 9 = g0 ∧ y 10 = 0 ∧ y 11 = 0 ∧ y 20 = nI C ∧ ∀ j, j < 75 → y (24 + j) = li j
section
variable {h_terms h_listed h_kept h_waits h_begun h_has h_out : Int32} {b_term b_list b_q b_ev b_g b_keptQ b_keptEv b_keptG b_waiting b_stack b_met b_view b_sorted b_breaks : Nat → Int32} {s C : Nat} {p1 p2 p3 p4 : Int32} {post : SY → Prop}
theorem yi_154 {zb : Nat → Int32} (hs : s < 6) (K : ∀ y, (∀ j, j < 75 → y (24 + j) = b_list j) → (∀ j, j < 24 → y j = zb j) → post (h_terms, 0, h_kept, h_waits, h_begun, h_has, h_out, b_term, b_list, (ed_sp b_q (100 * s) 100 y), b_ev, b_g, b_keptQ, b_keptEv, b_keptG, b_waiting, b_stack, b_met, b_view, b_sorted, b_breaks)) :
    ∀ (d k : Nat) (y : Nat → Int32), k + d = 75 → (∀ j, j < k → y (24 + j) = b_list j) → (∀ j, j < 24 → y j = zb j) → ∀ m, d < m → wY_set_154 post (nI s) h_terms h_listed h_kept h_waits h_begun h_has h_out m (nI k) b_term b_list (ed_sp b_q (100 * s) 100 y) b_ev b_g b_keptQ b_keptEv b_keptG b_waiting b_stack b_met b_view b_sorted b_breaks := by
  intro d
  induction d with
  | zero =>
    intro k y hk g1 g2 m hm
    obtain ⟨m, rfl⟩ : ∃ j, m = j + 1 := ⟨m - 1, by omega⟩
    obtain rfl : k = 75 := by omega
    rw [wY_set_154]
    exact br_t (Int32.le_refl _) (K y g1 g2)
  | succ d ih =>
    intro k y hk g1 g2 m hm
    obtain ⟨m, rfl⟩ : ∃ j, m = j + 1 := ⟨m - 1, by omega⟩
    have q : (100 : Int32) * nI s + 24 + nI k = (100 : Int32) * nI s + nI (24 + k) := by rw [← nI_add 24 k, ← Int32.add_assoc]; rfl
    rw [wY_set_154]
    dsimp only
    rw [q, ed_yw hs (by omega), nI_clamp (by omega)]
    refine br_f (nI_ge (b := 75) (by omega) (by decide)) ⟨vp_in_nI (by omega) (by omega), ed_yi hs (by omega), nm_e (nm_r (nI_1 _) (ih (k + 1) _ (by omega) (fun j hj => ?_) (fun j hj => ?_) m (by omega)))⟩
    · by_cases z : j = k
      · subst z; exact pk_us
      · rw [pk_un (by omega)]; exact g1 j (by omega)
    · rw [pk_un (by omega)]; exact g2 j hj
theorem yi_3 (hs : s < 6) (K : ∀ y, (∀ j, j < 100 → y j = 0) → wY_set_3 post (nI s) p1 p2 p3 p4 h_terms h_listed h_kept h_waits h_begun h_has h_out 1 (nI 100) b_term b_list (ed_sp b_q (100 * s) 100 y) b_ev b_g b_keptQ b_keptEv b_keptG b_waiting b_stack b_met b_view b_sorted b_breaks) :
    ∀ (d k : Nat) (y : Nat → Int32), k + d = 100 → (∀ j, j < k → y j = 0) → wY_set_3 post (nI s) p1 p2 p3 p4 h_terms h_listed h_kept h_waits h_begun h_has h_out (d + 1) (nI k) b_term b_list (ed_sp b_q (100 * s) 100 y) b_ev b_g b_keptQ b_keptEv b_keptG b_waiting b_stack b_met b_view b_sorted b_breaks := by
  intro d
  induction d with
  | zero =>
    intro k y hk g
    obtain rfl : k = 100 := by omega
    exact K y g
  | succ d ih =>
    intro k y hk g
    rw [wY_set_3]
    dsimp only
    rw [ed_yw hs (k := k) (by omega)]
    refine br_f (nI_ge (b := 100) (by omega) (by decide)) ⟨ed_yi hs (by omega), nm_e (nm_r (nI_1 _) (ih (k + 1) _ (by omega) (fun j hj => ?_)))⟩
    by_cases c : j = k
    · subst c; exact pk_us
    · rw [pk_un c]; exact g j (by omega)
theorem yi_wpset (hs : s < 6) (hli : h_listed = nI C) (K : ∀ y, yi_set p1 p2 p3 p4 (b_g 0) C b_list y → post (h_terms, 0, h_kept, h_waits, h_begun, h_has, h_out, b_term, b_list, (ed_sp b_q (100 * s) 100 y), b_ev, b_g, b_keptQ, b_keptEv, b_keptG, b_waiting, b_stack, b_met, b_view, b_sorted, b_breaks)) : wpY_set post (h_terms, h_listed, h_kept, h_waits, h_begun, h_has, h_out, b_term, b_list, b_q, b_ev, b_g, b_keptQ, b_keptEv, b_keptG, b_waiting, b_stack, b_met, b_view, b_sorted, b_breaks) (nI s) p1 p2 p3 p4 := by
  have e1 := ed_sp_of (a := b_q) (B := 100 * s) (n := 100) (b := fun j => b_q (100 * s + j)) (fun _ _ => rfl)
  unfold wpY_set
  refine ⟨100 + 1, ?_⟩
  have go := yi_3 (post := post) (p1 := p1) (p2 := p2) (p3 := p3) (p4 := p4) (h_terms := h_terms) (h_listed := h_listed) (h_kept := h_kept) (h_waits := h_waits) (h_begun := h_begun) (h_has := h_has) (h_out := h_out) (b_term := b_term) (b_list := b_list) (b_q := b_q) (b_ev := b_ev) (b_g := b_g) (b_keptQ := b_keptQ) (b_keptEv := b_keptEv) (b_keptG := b_keptG) (b_waiting := b_waiting) (b_stack := b_stack) (b_met := b_met) (b_view := b_view) (b_sorted := b_sorted) (b_breaks := b_breaks) hs (fun y hz => ?_) 100 0 (fun j => b_q (100 * s + j)) (by omega) (fun j hj => by omega)
  · rw [e1] at go
    exact go
  · rw [wY_set_3]
    refine br_t (Int32.le_refl _) ⟨ed_yi0 hs, nm_r (ed_yw0 hs) ⟨ed_yi hs (k := 1) (by decide), nm_r (ed_yw hs (k := 1) (by decide)) ⟨ed_yi hs (k := 2) (by decide), nm_r (ed_yw hs (k := 2) (by decide)) ⟨ed_yi hs (k := 3) (by decide), nm_r (ed_yw hs (k := 3) (by decide)) ⟨ed_yi hs (k := 6) (by decide), nm_r (ed_yw hs (k := 6) (by decide)) ⟨ed_yi hs (k := 7) (by decide), nm_r (ed_yw hs (k := 7) (by decide)) ⟨ed_yi hs (k := 8) (by decide), nm_r (ed_yw hs (k := 8) (by decide)) ⟨ed_yi hs (k := 9) (by decide), nm_r (ed_yw hs (k := 9) (by decide)) ⟨ed_yi hs (k := 20) (by decide), nm_r (ed_yw hs (k := 20) (by decide)) ⟨76, ?_⟩⟩⟩⟩⟩⟩⟩⟩⟩⟩
    refine yi_154 (zb := upd (upd (upd (upd (upd (upd (upd (upd (upd y 0 p1) 1 p2) 2 p3) 3 p4) 6 (-2147483648)) 7 1) 8 4) 9 (b_g 0)) 20 h_listed) hs (fun y2 g1 g2 => K y2 ⟨g2 0 (by decide), g2 1 (by decide), g2 2 (by decide), g2 3 (by decide), (g2 4 (by decide)).trans (hz 4 (by decide)), g2 6 (by decide), g2 7 (by decide), g2 8 (by decide), g2 9 (by decide), (g2 10 (by decide)).trans (hz 10 (by decide)), (g2 11 (by decide)).trans (hz 11 (by decide)), (g2 20 (by decide)).trans hli, g1⟩) 75 0 _ (by omega) (fun j hj => by omega) (fun _ _ => rfl) 76 (by omega)
end
end
section
/-! a new question -/
theorem ec_run_ne {fe oc ac oc' ac' : Nat → Int32} {n n' : Nat} {v v' : Int32} (h : ec_run fe oc ac n = some [v]) (h' : ec_run fe oc' ac' n' = some [v']) (e : ec_run fe oc ac n = ec_run fe oc' ac' n') : v = v' := by
  rw [h, h'] at e
  exact (List.cons.inj (Option.some.inj e)).1
theorem ie_new_c {cd ar cd' ar' ln li qs y : Nat → Int32} {s C : Nat} (hs : s < 6) (hC : C ≤ 3) (hc : ∀ c, c < C → ie_cond cd ar ln li c) (hq : ∀ c, c < C → qs (16 + c) = ln c) (hcd : ∀ j, j < 36 → cd' (36 * s + j) = cd j ∧ ar' (36 * s + j) = ar j) (hy : ∀ j, j < 75 → y (24 + j) = li j) :
    xc_ok cd' ar' qs s C (es_Mc y) ∧ yc_ok y C := by
  have yr : ∀ c m fe, c < C → m ≤ 12 → ec_run fe (fun i => y (24 + 25 * c + 1 + 2 * i)) (fun i => y (24 + 25 * c + 2 + 2 * i)) m = ec_run fe (fun i => li (25 * c + 1 + 2 * i)) (fun i => li (25 * c + 2 + 2 * i)) m := by
    intro c m fe hc hm
    refine ec_run_congr (fun i hi => ⟨?_, ?_⟩)
    · rw [show 24 + 25 * c + 1 + 2 * i = 24 + (25 * c + 1 + 2 * i) by omega]; exact hy _ (by omega)
    · rw [show 24 + 25 * c + 2 + 2 * i = 24 + (25 * c + 2 + 2 * i) by omega]; exact hy _ (by omega)
  constructor
  · intro c hcc
    obtain ⟨n, m, p1, p2, p3, p4, p5, p6, p7⟩ := hc c hcc
    refine ⟨n, (hq c hcc).trans p1, p2, fun i hi => ?_, fun fe => ?_⟩
    · obtain ⟨o, o1, o2⟩ := p3 i hi
      refine ⟨o, o1, ?_⟩
      rw [Nat.add_assoc, (hcd _ (by omega)).1, o2]
    · obtain ⟨v, v1, v2⟩ := p7 fe
      refine ⟨v, ?_, ?_⟩
      · rw [← v1]
        refine ec_run_congr (fun i hi => ⟨?_, ?_⟩)
        · rw [Nat.add_assoc, (hcd _ (by omega)).1]
        · rw [Nat.add_assoc, (hcd _ (by omega)).2]
      · unfold es_Mc
        rw [hy _ (by omega), p4, nI_clamp (by omega), yr c m fe hcc p5, v2]
        rfl
  · intro c hcc
    obtain ⟨n, m, p1, p2, p3, p4, p5, p6, p7⟩ := hc c hcc
    refine ⟨m, (hy _ (by omega)).trans p4, p5, fun i hi => ?_, fun fe => ?_⟩
    · obtain ⟨o, o1, o2⟩ := p6 i hi
      refine ⟨o, o1, ?_⟩
      rw [show 24 + 25 * c + 1 + 2 * i = 24 + (25 * c + 1 + 2 * i) by omega, hy _ (by omega), o2]
    · obtain ⟨v, v1, v2⟩ := p7 fe
      exact ⟨v, (yr c m fe hcc p5).trans v2⟩
theorem es_body_cd {E cd ar cd' ar' : Nat → Int32} {s H T : Nat} {qs ls y : Nat → Int32} (h : ∀ j, j < 36 → cd' (36 * s + j) = cd (36 * s + j) ∧ ar' (36 * s + j) = ar (36 * s + j)) (B : es_body E cd ar s H T qs ls y) : es_body E cd' ar' s H T qs ls y := by
  obtain ⟨C, F, a1, a2, a3, a4, a5, a6, a7⟩ := B
  refine ⟨C, F, a1, a2, a3, a4, a5, fun c hc => ?_, a7⟩
  obtain ⟨n, p1, p2, p3, p4⟩ := a6 c hc
  refine ⟨n, p1, p2, fun i hi => ?_, fun fe => ?_⟩
  · obtain ⟨o, o1, o2⟩ := p3 i hi
    refine ⟨o, o1, ?_⟩
    rw [Nat.add_assoc, (h _ (by omega)).1, ← Nat.add_assoc, o2]
  · obtain ⟨v, v1, v2⟩ := p4 fe
    refine ⟨v, ?_, v2⟩
    rw [← v1]
    refine ec_run_congr (fun i hi => ⟨?_, ?_⟩)
    · rw [Nat.add_assoc, (h _ (by omega)).1]
    · rw [Nat.add_assoc, (h _ (by omega)).2]
theorem es_sl_new {E cd ar cd' ar' aq al bq qs y : Nat → Int32} {T H s : Nat} (hs : s < 6) (h : es_sl E cd ar T (fun _ => H) aq al bq) (hcd : ∀ j, j < 36 * s ∨ 36 * s + 36 ≤ j → cd' j = cd j ∧ ar' j = ar j) (hn : es_slot E cd' ar' s H T qs (fun j => al (256 * s + j)) y) :
    es_sl E cd' ar' T (fun _ => H) (ed_sp aq (64 * s) 64 qs) al (ed_sp bq (100 * s) 100 y) := by
  intro t ht
  by_cases z : t = s
  · subst z
    exact ⟨qs, _, y, fun j hj => ed_sp_get hj, fun _ _ => rfl, fun j hj => ed_sp_get hj, hn⟩
  · obtain ⟨q, l, v, a, b, c, h0, d⟩ := h t ht
    refine ⟨q, l, v, fun j hj => ?_, b, fun j hj => ?_, h0, ?_⟩
    · rw [ed_sp_out (by omega)]; exact a j hj
    · rw [ed_sp_out (by omega)]; exact c j hj
    · rcases d with d | ⟨d1, d2, d3⟩
      · exact Or.inl d
      · exact Or.inr ⟨d1, d2, es_body_cd (fun j hj => hcd _ (by omega)) d3⟩
/-- what is new and empty -/
theorem ie_new0 {qs y : Nat → Int32} {H : Nat} (q7 : qs 7 = -2147483648) (q8 : qs 8 = 1) (q9 : qs 9 = 4) (q10 : qs 10 = 0) (q11 : qs 11 = 0) (y6 : y 6 = -2147483648) (y7 : y 7 = 1) (y8 : y 8 = 4) (y10 : y 10 = 0) (y11 : y 11 = 0) : es_giv qs y ∧ es_cnt H qs y :=
  ⟨⟨q7.trans y6.symm, ⟨1, by decide, by decide, q8, y7⟩, 4, by decide, q9, y8⟩, ⟨0, 0, q10, y10, Nat.zero_le _, q11, y11, Nat.le_refl 0, fun j _ hj => by omega⟩⟩
theorem ew_inv_new {M : Nat → Bool} {tm : Nat → Nat} {av bv : Nat → Int32} {fl : Int32} {view N H T : Nat} {qs ls : Nat → Int32} (h12 : qs 12 = 0) (h13 : qs 13 = 0) (h14 : qs 14 = 0) : ew_inv M tm av bv fl view N H H T qs ls := by
  refine ⟨[], [], 0, ⟨h12, h13, h14, by decide, by decide, List.Perm.refl _, fun i h => absurd h (by simp), fun i h => absurd h (by simp)⟩, List.Pairwise.nil, ?_⟩
  unfold ed_wi
  rw [ed_ms_nil (Nat.le_refl _)]
  refine ⟨fun _ => rfl, fun _ => ?_, fun _ => ⟨0, Nat.zero_le _, rfl⟩, fun _ => ?_, fun _ => rfl, fun _ => rfl⟩
  · unfold ed_la; simp
  · unfold ed_la; simp
theorem xp_inv_new {ty av : Nat → Int32} {stop : Int32} {M0 M1 Ml : Nat → Bool} {tm : Nat → Nat} {eq st2 once : Bool} {N H T : Nat} {qs ls : Nat → Int32} (h12 : qs 12 = 0) : xp_inv ty av stop M0 M1 Ml tm eq st2 once N H H T qs ls :=
  ⟨[], 0, Nat.zero_le _, (ed_ms_nil (Nat.le_refl _)).symm, h12, by decide, fun i h => absurd h (by simp)⟩
theorem xj_inv_new {M0 M1 : Nat → Bool} {n m H : Nat} {qs ls : Nat → Int32} (h36 : qs 36 = 0) (h37 : qs 37 = 0) (h38 : qs 38 = 0) (h39 : qs 39 = 0) : xj_inv M0 M1 n m H H qs ls := by
  unfold xj_inv
  rw [ed_ms_nil (Nat.le_refl _), ed_ms_nil (Nat.le_refl _)]
  have e : ∀ n, ed_la n [] = [] := fun n => by unfold ed_la; simp
  rw [e, e]
  exact ⟨⟨0, h36, h37, by decide, by decide, fun i h => absurd h (by simp)⟩, ⟨0, h38, h39, by decide, by decide, fun i h => absurd h (by simp)⟩⟩
end
section
/-! join, pattern, window -/
theorem ie_bz (v : Int32) : ∃ b, lw_bz v = ed_bI b := by
  rcases lw_bz_01 v with h | h
  · exact ⟨false, h⟩
  · exact ⟨true, h⟩
theorem ie_bI_if (b : Bool) : (if ed_bI b = 0 then 0 else 1 : Int32) = ed_bI b := by cases b <;> rfl
section
variable {f_terms f_conditions f_happened f_waiting f_lost f_time f_all f_oldHappened f_oldLost f_oldTime f_oldAll f_kept : Int32} {a_termOp a_termValue a_askedCode a_code a_oldCode a_askedArg a_arg a_oldArg a_askedLength a_stack a_question a_oldQuestion a_list a_oldList a_event a_oldEvent : Nat → Int32} {h_terms h_listed h_kept h_waits h_begun h_has h_out : Int32} {b_term b_list b_q b_ev b_g b_keptQ b_keptEv b_keptG b_waiting b_stack b_met b_view b_sorted b_breaks : Nat → Int32} {k s H T : Nat} {cd ar qs y : Nat → Int32}
theorem ie_done (hs : s < 6) (I : i_Rel k (f_terms, f_conditions, f_happened, f_waiting, f_lost, f_time, f_all, f_oldHappened, f_oldLost, f_oldTime, f_oldAll, f_kept, a_termOp, a_termValue, a_askedCode, a_code, a_oldCode, a_askedArg, a_arg, a_oldArg, a_askedLength, a_stack, a_question, a_oldQuestion, a_list, a_oldList, a_event, a_oldEvent) (h_terms, h_listed, h_kept, h_waits, h_begun, h_has, h_out, b_term, b_list, b_q, b_ev, b_g, b_keptQ, b_keptEv, b_keptG, b_waiting, b_stack, b_met, b_view, b_sorted, b_breaks)) (b1 : f_happened = nI H) (b2 : b_g 0 = nI H) (b3 : H ≤ 64) (b4 : f_time = nI T) (b5 : b_g 2 = nI T) (b6 : T ≤ 100 * k) (b7 : b_g 1 = f_lost) (b8 : b_g 3 = f_all) (b9 : ∀ j, j < 4 * H → b_ev j = a_event j) (b10 : es_tms a_event H T)
    (b11 : es_sl a_event a_code a_arg T (fun _ => H) a_question a_list b_q) (hcd : ∀ j, j < 36 * s ∨ 36 * s + 36 ≤ j → cd j = a_code j ∧ ar j = a_arg j) (hb : ie_b cd) (hn : es_slot a_event cd ar s H T qs (fun j => a_list (256 * s + j)) y) :
    i_Rel k (f_terms, 0, f_happened, f_waiting, f_lost, f_time, f_all, f_oldHappened, f_oldLost, f_oldTime, f_oldAll, f_kept, a_termOp, a_termValue, a_askedCode, cd, a_oldCode, a_askedArg, ar, a_oldArg, a_askedLength, a_stack, (ed_sp a_question (64 * s) 64 qs), a_oldQuestion, a_list, a_oldList, a_event, a_oldEvent) (h_terms, 0, h_kept, h_waits, h_begun, h_has, h_out, b_term, b_list, (ed_sp b_q (100 * s) 100 y), b_ev, b_g, b_keptQ, b_keptEv, b_keptG, b_waiting, b_stack, b_met, b_view, b_sorted, b_breaks) := by
  obtain ⟨a1, a2, a3, a4, a5, a6, a7, a8, a9⟩ := I
  exact ⟨a1, ⟨0, rfl, rfl, by decide, fun c hc => by omega⟩, a3, hb, a5, a6, a7, ⟨H, T, b1, b2, b3, b4, b5, b6, b7, b8, b9, b10, es_sl_new hs b11 hcd hn⟩, a9⟩
end
theorem i_vc_join {k : Nat} {u : SX} {v : SY} (I : i_Rel k u v) (hk : k + 6 ≤ 3072) (v1 : Int32) (v2 : Int32) (v3 : Int32) : wpX_join (fun r u' => wpY_join (fun r' v' => r' = r ∧ i_Rel (k + 6) u' v') v v1 v2 v3) u v1 v2 v3 := by
  have I := i_up I
  obtain ⟨f_terms, f_conditions, f_happened, f_waiting, f_lost, f_time, f_all, f_oldHappened, f_oldLost, f_oldTime, f_oldAll, f_kept, a_termOp, a_termValue, a_askedCode, a_code, a_oldCode, a_askedArg, a_arg, a_oldArg, a_askedLength, a_stack, a_question, a_oldQuestion, a_list, a_oldList, a_event, a_oldEvent⟩ := u
  obtain ⟨h_terms, h_listed, h_kept, h_waits, h_begun, h_has, h_out, b_term, b_list, b_q, b_ev, b_g, b_keptQ, b_keptEv, b_keptG, b_waiting, b_stack, b_met, b_view, b_sorted, b_breaks⟩ := v
  have I' := I
  obtain ⟨a1, ⟨C, d1, d2, d3, d4⟩, a3, a4, a5, a6, a7, ⟨H, T, b1, b2, b3, b4, b5, b6, b7, b8, b9, b10, b11⟩, a9⟩ := I
  unfold wpX_join wpY_join
  rcases ie_ix v1 with h | ⟨s, hs, rfl⟩
  · exact xi_bad h (br_t rfl (yi_bad h (br_t rfl ⟨rfl, I'⟩)))
  refine xi_slot hs (br_f (by decide) ?_)
  by_cases c0 : C = 2
  · have x2 : f_conditions = 2 := by rw [d1, c0]; rfl
    have y2 : h_listed = 2 := by rw [d2, c0]; rfl
    refine br_t x2 ?_
    unfold wpX_within
    by_cases c1 : v2 < 1
    · exact br_t c1 (br_t rfl (yi_slot hs (br_f (by decide) (br_t y2 (br_t c1 ⟨rfl, I'⟩)))))
    by_cases c2 : 16 < v2
    · exact br_f c1 (br_t c2 (br_t rfl (yi_slot hs (br_f (by decide) (br_t y2 (br_f c1 (br_t c2 ⟨rfl, I'⟩)))))))
    refine br_f c1 (br_f c2 (br_f (by decide) ?_))
    by_cases c3 : v3 < 1
    · exact br_t c3 (br_t rfl (yi_slot hs (br_f (by decide) (br_t y2 (br_f c1 (br_f c2 (br_t c3 ⟨rfl, I'⟩)))))))
    by_cases c4 : 16 < v3
    · exact br_f c3 (br_t c4 (br_t rfl (yi_slot hs (br_f (by decide) (br_t y2 (br_f c1 (br_f c2 (br_f c3 (br_f (Int32.not_le.mpr c4) ⟨rfl, I'⟩)))))))))
    refine br_f c3 (br_f c4 (br_f (by decide) ?_))
    obtain ⟨n, n1, n2, rfl⟩ := ie_rng (a := 1) (b := 16) (by decide) (by decide) c1 c2
    obtain ⟨m, m1, m2, rfl⟩ := ie_rng (a := 1) (b := 16) (by decide) (by decide) c3 c4
    refine xi_wpset hs d3 d1 a3 a4 (fun qs cd ar xs h1 h2 h3 => ?_)
    refine yi_slot hs (br_f (by decide) (br_t y2 (br_f c1 (br_f c2 (br_f c3 (br_t (Int32.not_lt.mp c4) ?_))))))
    refine yi_wpset hs d2 (fun y ys => ⟨rfl, ie_done hs I' b1 b2 b3 b4 b5 b6 b7 b8 b9 b10 b11 h2 h3 ?_⟩)
    obtain ⟨x0, x2, x3, x5, x7, x8, x9, x15, x16, xz⟩ := xs
    obtain ⟨y0, y1, y2, y3, y4, y6, y7, y8, y9, y10, y11, y20, yc⟩ := ys
    obtain ⟨k1, k2⟩ := ie_new_c hs d3 d4 x16 h1 yc
    obtain ⟨g1, g2⟩ := ie_new0 (H := H) x7 x8 x9 (xz 10 (by decide)) (xz 11 (by decide)) y6 y7 y8 y10 y11
    exact ⟨x0.trans y0.symm, Or.inr ⟨g1, g2, C, H, x15, y20, d3, y9.trans b2, Nat.le_refl _, k1, k2, Or.inr (Or.inr ⟨x0, c0, n, m, x2, y1, n1, n2, x3, y2, m1, m2, xj_inv_new (xz 36 (by decide)) (xz 37 (by decide)) (xz 38 (by decide)) (xz 39 (by decide))⟩)⟩⟩
  · have x2 : ¬ f_conditions = 2 := by rw [d1]; exact ec_neL (b := 2) c0 (by omega) (by decide)
    have y2 : ¬ h_listed = 2 := by rw [d2]; exact ec_neL (b := 2) c0 (by omega) (by decide)
    exact br_f x2 (yi_slot hs (br_f (by decide) (br_f y2 ⟨rfl, I'⟩)))
theorem i_vc_pattern {k : Nat} {u : SX} {v : SY} (I : i_Rel k u v) (hk : k + 6 ≤ 3072) (v1 : Int32) (v2 : Int32) (v3 : Int32) (v4 : Int32) (v5 : Int32) : wpX_pattern (fun r u' => wpY_pattern (fun r' v' => r' = r ∧ i_Rel (k + 6) u' v') v v1 v2 v3 (lw_bz v4) (lw_bz v5)) u v1 v2 v3 (lw_bz v4) (lw_bz v5) := by
  have I := i_up I
  obtain ⟨f_terms, f_conditions, f_happened, f_waiting, f_lost, f_time, f_all, f_oldHappened, f_oldLost, f_oldTime, f_oldAll, f_kept, a_termOp, a_termValue, a_askedCode, a_code, a_oldCode, a_askedArg, a_arg, a_oldArg, a_askedLength, a_stack, a_question, a_oldQuestion, a_list, a_oldList, a_event, a_oldEvent⟩ := u
  obtain ⟨h_terms, h_listed, h_kept, h_waits, h_begun, h_has, h_out, b_term, b_list, b_q, b_ev, b_g, b_keptQ, b_keptEv, b_keptG, b_waiting, b_stack, b_met, b_view, b_sorted, b_breaks⟩ := v
  have I' := I
  obtain ⟨a1, ⟨C, d1, d2, d3, d4⟩, a3, a4, a5, a6, a7, ⟨H, T, b1, b2, b3, b4, b5, b6, b7, b8, b9, b10, b11⟩, a9⟩ := I
  obtain ⟨eq, he⟩ := ie_bz v4
  obtain ⟨once, ho⟩ := ie_bz v5
  rw [he, ho]
  unfold wpX_pattern wpY_pattern
  rcases ie_ix v1 with h | ⟨s, hs, rfl⟩
  · exact xi_bad h (br_t rfl (yi_bad h (br_t rfl ⟨rfl, I'⟩)))
  refine xi_slot hs (br_f (by decide) ?_)
  by_cases c0 : C < 2
  · have x2 : f_conditions < 2 := by rw [d1]; exact nI_lt (b := 2) c0 (by decide)
    have y2 : h_listed < 2 := by rw [d2]; exact nI_lt (b := 2) c0 (by decide)
    exact br_t x2 (yi_slot hs (br_f (by decide) (br_t y2 ⟨rfl, I'⟩)))
  · have x2 : ¬ f_conditions < 2 := by rw [d1]; exact nI_nlt (b := 2) (by omega) (by omega)
    have y2 : ¬ h_listed < 2 := by rw [d2]; exact nI_nlt (b := 2) (by omega) (by omega)
    refine br_f x2 ?_
    unfold wpX_within
    by_cases c1 : v2 < 1
    · exact br_t c1 (br_t rfl (yi_slot hs (br_f (by decide) (br_f y2 (br_t c1 ⟨rfl, I'⟩)))))
    by_cases c2 : 1000 < v2
    · exact br_f c1 (br_t c2 (br_t rfl (yi_slot hs (br_f (by decide) (br_f y2 (br_f c1 (br_t c2 ⟨rfl, I'⟩)))))))
    refine br_f c1 (br_f c2 (br_f (by decide) ?_))
    by_cases c3 : v3 < 0
    · exact br_t c3 (br_t rfl (yi_slot hs (br_f (by decide) (br_f y2 (br_f c1 (br_f c2 (br_t c3 ⟨rfl, I'⟩)))))))
    by_cases c4 : 4 < v3
    · exact br_f c3 (br_t c4 (br_t rfl (yi_slot hs (br_f (by decide) (br_f y2 (br_f c1 (br_f c2 (br_f c3 (br_f (Int32.not_le.mpr c4) ⟨rfl, I'⟩)))))))))
    refine br_f c3 (br_f c4 (br_f (by decide) ?_))
    obtain ⟨n, n1, n2, rfl⟩ := ie_rng (a := 1) (b := 1000) (by decide) (by decide) c1 c2
    refine xi_wpset hs d3 d1 a3 a4 (fun qs cd ar xs h1 h2 h3 => ?_)
    rw [ie_bI_if] at xs
    dsimp only
    have ew : ∀ b : Bool, upd (ed_sp a_question (64 * s) 64 (upd qs 6 v3)) ((64 : Int32) * nI s + 19).toNatClampNeg (ed_bI b) = ed_sp a_question (64 * s) 64 (upd (upd qs 6 v3) 19 (ed_bI b)) := fun b => by rw [ed_q2]; exact ed_qw hs (k := 19) (by decide)
    refine ⟨by rw [ed_q2]; exact ed_qi hs (k := 6) (by decide), nm_r (e' := ed_sp a_question (64 * s) 64 (upd qs 6 v3)) (by rw [ed_q2]; exact ed_qw hs (k := 6) (by decide)) ?_⟩
    have i19 : vp_in ((64 : Int32) * nI s + 19) 384 := by rw [ed_q2]; exact ed_qi hs (k := 19) (by decide)
    have fin : wpY_pattern (fun r' v' => r' = 1 ∧ i_Rel (k + 6) (f_terms, 0, f_happened, f_waiting, f_lost, f_time, f_all, f_oldHappened, f_oldLost, f_oldTime, f_oldAll, f_kept, a_termOp, a_termValue, a_askedCode, cd, a_oldCode, a_askedArg, ar, a_oldArg, a_askedLength, a_stack, (ed_sp a_question (64 * s) 64 (upd (upd qs 6 v3) 19 (ed_bI once))), a_oldQuestion, a_list, a_oldList, a_event, a_oldEvent) v') (h_terms, h_listed, h_kept, h_waits, h_begun, h_has, h_out, b_term, b_list, b_q, b_ev, b_g, b_keptQ, b_keptEv, b_keptG, b_waiting, b_stack, b_met, b_view, b_sorted, b_breaks) (nI s) (nI n) v3 (ed_bI eq) (ed_bI once) := by
      unfold wpY_pattern
      refine yi_slot hs (br_f (by decide) (br_f y2 (br_f c1 (br_f c2 (br_f c3 (br_t (Int32.not_lt.mp c4) ?_))))))
      have go : wY_pattern_54 (fun r' v' => r' = 1 ∧ i_Rel (k + 6) (f_terms, 0, f_happened, f_waiting, f_lost, f_time, f_all, f_oldHappened, f_oldLost, f_oldTime, f_oldAll, f_kept, a_termOp, a_termValue, a_askedCode, cd, a_oldCode, a_askedArg, ar, a_oldArg, a_askedLength, a_stack, (ed_sp a_question (64 * s) 64 (upd (upd qs 6 v3) 19 (ed_bI once))), a_oldQuestion, a_list, a_oldList, a_event, a_oldEvent) v') (nI s) (ed_bI once) (ed_bI eq) v3 (nI n) 2 (nI s) h_terms h_listed h_kept h_waits h_begun h_has h_out b_term b_list b_q b_ev b_g b_keptQ b_keptEv b_keptG b_waiting b_stack b_met b_view b_sorted b_breaks := by
        unfold wY_pattern_54
        refine yi_wpset hs d2 (fun y ys => ?_)
        have last : i_Rel (k + 6) (f_terms, 0, f_happened, f_waiting, f_lost, f_time, f_all, f_oldHappened, f_oldLost, f_oldTime, f_oldAll, f_kept, a_termOp, a_termValue, a_askedCode, cd, a_oldCode, a_askedArg, ar, a_oldArg, a_askedLength, a_stack, (ed_sp a_question (64 * s) 64 (upd (upd qs 6 v3) 19 (ed_bI once))), a_oldQuestion, a_list, a_oldList, a_event, a_oldEvent) (h_terms, 0, h_kept, h_waits, h_begun, h_has, h_out, b_term, b_list, (ed_sp b_q (100 * s) 100 (upd y 4 (ed_bI once))), b_ev, b_g, b_keptQ, b_keptEv, b_keptG, b_waiting, b_stack, b_met, b_view, b_sorted, b_breaks) := by
          refine ie_done hs I' b1 b2 b3 b4 b5 b6 b7 b8 b9 b10 b11 h2 h3 ?_
          obtain ⟨x0, x2, x3, x5, x7, x8, x9, x15, x16, xz⟩ := xs
          obtain ⟨y0, y1, y2, y3, y4, y6, y7, y8, y9, y10, y11, y20, yc⟩ := ys
          obtain ⟨k1, k2⟩ := ie_new_c (qs := upd (upd qs 6 v3) 19 (ed_bI once)) (y := upd y 4 (ed_bI once)) hs d3 d4 (fun c hc => ((pk_un (by omega)).trans (pk_un (by omega))).trans (x16 c hc)) h1 (fun j hj => (pk_un (by omega)).trans (yc j hj))
          obtain ⟨g1, g2⟩ := ie_new0 (qs := upd (upd qs 6 v3) 19 (ed_bI once)) (y := upd y 4 (ed_bI once)) (H := H) x7 x8 x9 (xz 10 (by decide)) (xz 11 (by decide)) y6 y7 y8 y10 y11
          exact ⟨x0.trans y0.symm, Or.inr ⟨g1, g2, C, H, x15, y20, d3, y9.trans b2, Nat.le_refl _, k1, k2, Or.inr (Or.inl ⟨x0, by omega, n, eq, once, x2, y1, n1, n2, y2.symm, x5, y3, rfl, rfl, xp_inv_new (xz 12 (by decide))⟩)⟩⟩
        exact ed_bI_br (fun b => ⟨ed_yi hs (k := 4) (by decide), nm_r (ed_yw hs (k := 4) (by decide)) ⟨rfl, by rw [b] at last ⊢; exact last⟩⟩) (fun b => ⟨ed_yi hs (k := 4) (by decide), nm_r (ed_yw hs (k := 4) (by decide)) ⟨rfl, by rw [b] at last ⊢; exact last⟩⟩)
      exact ed_bI_br (fun b => by rw [b] at go; exact go) (fun b => by rw [b] at go; exact go)
    exact ed_bI_br (fun b => ⟨i19, nm_r (ew false) (by rw [b] at fin ⊢; exact fin)⟩) (fun b => ⟨i19, nm_r (ew true) (by rw [b] at fin ⊢; exact fin)⟩)
end
section
/-! window -/
theorem i_vc_window {k : Nat} {u : SX} {v : SY} (I : i_Rel k u v) (hk : k + 6 ≤ 3072) (v1 : Int32) (v2 : Int32) (v3 : Int32) (v4 : Int32) (v5 : Int32) : wpX_window (fun r u' => wpY_window (fun r' v' => r' = r ∧ i_Rel (k + 6) u' v') v v1 v2 v3 v4 (lw_bz v5)) u v1 v2 v3 v4 (lw_bz v5) := by
  have I := i_up I
  obtain ⟨f_terms, f_conditions, f_happened, f_waiting, f_lost, f_time, f_all, f_oldHappened, f_oldLost, f_oldTime, f_oldAll, f_kept, a_termOp, a_termValue, a_askedCode, a_code, a_oldCode, a_askedArg, a_arg, a_oldArg, a_askedLength, a_stack, a_question, a_oldQuestion, a_list, a_oldList, a_event, a_oldEvent⟩ := u
  obtain ⟨h_terms, h_listed, h_kept, h_waits, h_begun, h_has, h_out, b_term, b_list, b_q, b_ev, b_g, b_keptQ, b_keptEv, b_keptG, b_waiting, b_stack, b_met, b_view, b_sorted, b_breaks⟩ := v
  have I' := I
  obtain ⟨a1, ⟨C, d1, d2, d3, d4⟩, a3, a4, a5, a6, a7, ⟨H, T, b1, b2, b3, b4, b5, b6, b7, b8, b9, b10, b11⟩, a9⟩ := I
  obtain ⟨g, hg⟩ := ie_bz v5
  rw [hg]
  unfold wpX_window
  rcases ie_ix v1 with h | ⟨s, hs, rfl⟩
  · unfold wpY_window
    exact xi_bad h (br_t rfl (yi_bad h (br_t rfl ⟨rfl, I'⟩)))
  refine xi_slot hs (br_f (by decide) ?_)
  by_cases c0 : C = 1
  · have x1 : f_conditions = 1 := by rw [d1, c0]; rfl
    have y1 : h_listed = 1 := by rw [d2, c0]; rfl
    refine br_t x1 ?_
    unfold wpX_within
    by_cases c1 : v2 < 0
    · unfold wpY_window
      exact br_t c1 (br_t rfl (yi_slot hs (br_f (by decide) (br_t y1 (br_t c1 ⟨rfl, I'⟩)))))
    by_cases c2 : 5 < v2
    · unfold wpY_window
      exact br_f c1 (br_t c2 (br_t rfl (yi_slot hs (br_f (by decide) (br_t y1 (br_f c1 (br_t c2 ⟨rfl, I'⟩)))))))
    refine br_f c1 (br_f c2 (br_f (by decide) ?_))
    by_cases c3 : v4 < 0
    · unfold wpY_window
      exact br_t c3 (br_t rfl (yi_slot hs (br_f (by decide) (br_t y1 (br_f c1 (br_f c2 (br_t c3 ⟨rfl, I'⟩)))))))
    by_cases c4 : 5 < v4
    · unfold wpY_window
      exact br_f c3 (br_t c4 (br_t rfl (yi_slot hs (br_f (by decide) (br_t y1 (br_f c1 (br_f c2 (br_f c3 (br_f (Int32.not_le.mpr c4) ⟨rfl, I'⟩)))))))))
    refine br_f c3 (br_f c4 (br_f (by decide) ?_))
    obtain ⟨view, w1, w2, rfl⟩ := ie_rng (a := 0) (b := 5) (by decide) (by decide) c1 c2
    obtain ⟨how, o1, o2, rfl⟩ := ie_rng (a := 0) (b := 5) (by decide) (by decide) c3 c4
    have ygo : ∀ (P : Int32 → SY → Prop), ((nI view = 0 → wY_window_75 P (nI s) (nI view) v3 (nI how) (ed_bI g) h_terms h_listed h_kept h_waits h_begun h_has h_out b_term b_list b_q b_ev b_g b_keptQ b_keptEv b_keptG b_waiting b_stack b_met b_view b_sorted b_breaks) ∧ (¬ nI view = 0 → ((nI view = 4 → wY_window_75 P (nI s) (nI view) v3 (nI how) (ed_bI g) h_terms h_listed h_kept h_waits h_begun h_has h_out b_term b_list b_q b_ev b_g b_keptQ b_keptEv b_keptG b_waiting b_stack b_met b_view b_sorted b_breaks) ∧ (¬ nI view = 4 → ((v3 < 1 → P 0 (h_terms, h_listed, h_kept, h_waits, h_begun, h_has, h_out, b_term, b_list, b_q, b_ev, b_g, b_keptQ, b_keptEv, b_keptG, b_waiting, b_stack, b_met, b_view, b_sorted, b_breaks)) ∧ (¬ v3 < 1 → ((nI view = 2 → wY_window_63 P (nI s) (nI view) v3 (nI how) (ed_bI g) v3 h_terms h_listed h_kept h_waits h_begun h_has h_out b_term b_list b_q b_ev b_g b_keptQ b_keptEv b_keptG b_waiting b_stack b_met b_view b_sorted b_breaks) ∧ (¬ nI view = 2 → ((nI view = 5 → wY_window_63 P (nI s) (nI view) v3 (nI how) (ed_bI g) v3 h_terms h_listed h_kept h_waits h_begun h_has h_out b_term b_list b_q b_ev b_g b_keptQ b_keptEv b_keptG b_waiting b_stack b_met b_view b_sorted b_breaks) ∧ (¬ nI view = 5 → wY_window_70 P (nI s) (nI view) v3 (nI how) (ed_bI g) 16 v3 h_terms h_listed h_kept h_waits h_begun h_has h_out b_term b_list b_q b_ev b_g b_keptQ b_keptEv b_keptG b_waiting b_stack b_met b_view b_sorted b_breaks)))))))))) →
        wpY_window P (h_terms, h_listed, h_kept, h_waits, h_begun, h_has, h_out, b_term, b_list, b_q, b_ev, b_g, b_keptQ, b_keptEv, b_keptG, b_waiting, b_stack, b_met, b_view, b_sorted, b_breaks) (nI s) (nI view) v3 (nI how) (ed_bI g) := by
      intro P h
      unfold wpY_window
      exact yi_slot hs (br_f (by decide) (br_t y1 (br_f c1 (br_f c2 (br_f c3 (br_t (Int32.not_lt.mp c4) h))))))
    have fin : (∀ P : Int32 → SY → Prop, wY_window_75 P (nI s) (nI view) v3 (nI how) (ed_bI g) h_terms h_listed h_kept h_waits h_begun h_has h_out b_term b_list b_q b_ev b_g b_keptQ b_keptEv b_keptG b_waiting b_stack b_met b_view b_sorted b_breaks → wpY_window P (h_terms, h_listed, h_kept, h_waits, h_begun, h_has, h_out, b_term, b_list, b_q, b_ev, b_g, b_keptQ, b_keptEv, b_keptG, b_waiting, b_stack, b_met, b_view, b_sorted, b_breaks) (nI s) (nI view) v3 (nI how) (ed_bI g)) → (view = 1 ∨ view = 3 → ∃ N, v3 = nI N ∧ 1 ≤ N ∧ N ≤ 16) → (view = 2 ∨ view = 5 → ∃ N, v3 = nI N ∧ 1 ≤ N ∧ N ≤ 100) →
        wX_window_79 (fun r u' => wpY_window (fun r' v' => r' = r ∧ i_Rel (k + 6) u' v') (h_terms, h_listed, h_kept, h_waits, h_begun, h_has, h_out, b_term, b_list, b_q, b_ev, b_g, b_keptQ, b_keptEv, b_keptG, b_waiting, b_stack, b_met, b_view, b_sorted, b_breaks) (nI s) (nI view) v3 (nI how) (ed_bI g)) (nI s) (nI view) v3 (nI how) (ed_bI g) f_terms f_conditions f_happened f_waiting f_lost f_time f_all f_oldHappened f_oldLost f_oldTime f_oldAll f_kept a_termOp a_termValue a_askedCode a_code a_oldCode a_askedArg a_arg a_oldArg a_askedLength a_stack a_question a_oldQuestion a_list a_oldList a_event a_oldEvent := by
      intro hY h13 h25
      unfold wX_window_79
      refine xi_wpset hs d3 d1 a3 a4 (fun qs cd ar xs h1 h2 h3 => ?_)
      rw [ie_bI_if] at xs
      dsimp only
      refine ⟨by rw [ed_q2]; exact ed_qi hs (k := 1) (by decide), nm_r (e' := ed_sp a_question (64 * s) 64 (upd qs 1 (nI view))) (by rw [ed_q2]; exact ed_qw hs (k := 1) (by decide)) ⟨by rw [ed_q2]; exact ed_qi hs (k := 4) (by decide), nm_r (e' := ed_sp a_question (64 * s) 64 (upd (upd qs 1 (nI view)) 4 (nI how))) (by rw [ed_q2]; exact ed_qw hs (k := 4) (by decide)) (hY _ ?_)⟩⟩
      unfold wY_window_75
      refine yi_wpset hs d2 (fun y ys => ?_)
      have last : i_Rel (k + 6) (f_terms, 0, f_happened, f_waiting, f_lost, f_time, f_all, f_oldHappened, f_oldLost, f_oldTime, f_oldAll, f_kept, a_termOp, a_termValue, a_askedCode, cd, a_oldCode, a_askedArg, ar, a_oldArg, a_askedLength, a_stack, (ed_sp a_question (64 * s) 64 (upd (upd qs 1 (nI view)) 4 (nI how))), a_oldQuestion, a_list, a_oldList, a_event, a_oldEvent) (h_terms, 0, h_kept, h_waits, h_begun, h_has, h_out, b_term, b_list, (ed_sp b_q (100 * s) 100 (upd y 4 (ed_bI g))), b_ev, b_g, b_keptQ, b_keptEv, b_keptG, b_waiting, b_stack, b_met, b_view, b_sorted, b_breaks) := by
        refine ie_done hs I' b1 b2 b3 b4 b5 b6 b7 b8 b9 b10 b11 h2 h3 ?_
        obtain ⟨x0, x2, x3, x5, x7, x8, x9, x15, x16, xz⟩ := xs
        obtain ⟨y0, y1, y2, y3, y4, y6, y7, y8, y9, y10, y11, y20, yc⟩ := ys
        obtain ⟨k1, k2⟩ := ie_new_c (qs := upd (upd qs 1 (nI view)) 4 (nI how)) (y := upd y 4 (ed_bI g)) hs d3 d4 (fun c hc => ((pk_un (by omega)).trans (pk_un (by omega))).trans (x16 c hc)) h1 (fun j hj => (pk_un (by omega)).trans (yc j hj))
        obtain ⟨g1, g2⟩ := ie_new0 (qs := upd (upd qs 1 (nI view)) 4 (nI how)) (y := upd y 4 (ed_bI g)) (H := H) x7 x8 x9 (xz 10 (by decide)) (xz 11 (by decide)) y6 y7 y8 y10 y11
        refine ⟨x0.trans y0.symm, Or.inr ⟨g1, g2, C, H, x15, y20, d3, y9.trans b2, Nat.le_refl _, k1, k2, Or.inl ⟨x0, c0, view, how, rfl, y1, w2, x2.trans y2.symm, fun z => ?_, fun z => ?_, rfl, y3, o2, x5, ew_inv_new (xz 12 (by decide)) (xz 13 (by decide)) (xz 14 (by decide))⟩⟩⟩
        · obtain ⟨N, e1, e2, e3⟩ := h13 z
          show y 2 = nI (y 2).toNatClampNeg ∧ 1 ≤ (y 2).toNatClampNeg ∧ (y 2).toNatClampNeg ≤ 16
          rw [y2, e1, nI_clamp (by omega)]
          exact ⟨rfl, e2, e3⟩
        · obtain ⟨N, e1, e2, e3⟩ := h25 z
          show y 2 = nI (y 2).toNatClampNeg ∧ 1 ≤ (y 2).toNatClampNeg ∧ (y 2).toNatClampNeg ≤ 100
          rw [y2, e1, nI_clamp (by omega)]
          exact ⟨rfl, e2, e3⟩
      exact ed_bI_br (fun b => ⟨ed_yi hs (k := 4) (by decide), nm_r (ed_yw hs (k := 4) (by decide)) ⟨rfl, by rw [b] at last; exact last⟩⟩) (fun b => ⟨ed_yi hs (k := 4) (by decide), nm_r (ed_yw hs (k := 4) (by decide)) ⟨rfl, by rw [b] at last; exact last⟩⟩)
    have bad : ∀ r : Int32, r = 0 → wpY_window (fun r' v' => r' = r ∧ i_Rel (k + 6) (f_terms, f_conditions, f_happened, f_waiting, f_lost, f_time, f_all, f_oldHappened, f_oldLost, f_oldTime, f_oldAll, f_kept, a_termOp, a_termValue, a_askedCode, a_code, a_oldCode, a_askedArg, a_arg, a_oldArg, a_askedLength, a_stack, a_question, a_oldQuestion, a_list, a_oldList, a_event, a_oldEvent) v') (h_terms, h_listed, h_kept, h_waits, h_begun, h_has, h_out, b_term, b_list, b_q, b_ev, b_g, b_keptQ, b_keptEv, b_keptG, b_waiting, b_stack, b_met, b_view, b_sorted, b_breaks) (nI s) (nI view) v3 (nI how) (ed_bI g) → wpY_window (fun r' v' => r' = 0 ∧ i_Rel (k + 6) (f_terms, f_conditions, f_happened, f_waiting, f_lost, f_time, f_all, f_oldHappened, f_oldLost, f_oldTime, f_oldAll, f_kept, a_termOp, a_termValue, a_askedCode, a_code, a_oldCode, a_askedArg, a_arg, a_oldArg, a_askedLength, a_stack, a_question, a_oldQuestion, a_list, a_oldList, a_event, a_oldEvent) v') (h_terms, h_listed, h_kept, h_waits, h_begun, h_has, h_out, b_term, b_list, b_q, b_ev, b_g, b_keptQ, b_keptEv, b_keptG, b_waiting, b_stack, b_met, b_view, b_sorted, b_breaks) (nI s) (nI view) v3 (nI how) (ed_bI g) := fun r hr h => by rw [hr] at h; exact h
    rcases (show view = 0 ∨ view = 1 ∨ view = 2 ∨ view = 3 ∨ view = 4 ∨ view = 5 by omega) with rfl | rfl | rfl | rfl | rfl | rfl
    · refine br_f (by decide) (br_f (by decide) (br_f (by decide) (br_f (by decide) (fin (fun P h => ygo P (br_t rfl h)) (fun z => absurd z (by decide)) (fun z => absurd z (by decide))))))
    · refine br_f (by decide) (br_f (by decide) (br_t rfl ?_))
      unfold wX_window_67 wpX_within
      by_cases e1 : v3 < 1
      · exact br_t e1 (br_t rfl (ygo _ (br_f (by decide) (br_f (by decide) (br_t e1 ⟨rfl, I'⟩)))))
      by_cases e2 : 16 < v3
      · exact br_f e1 (br_t e2 (br_t rfl (ygo _ (br_f (by decide) (br_f (by decide) (br_f e1 (br_f (by decide) (br_f (by decide) (br_f (Int32.not_le.mpr e2) ⟨rfl, I'⟩)))))))))
      obtain ⟨N, n1, n2, n3⟩ := ie_rng (a := 1) (b := 16) (by decide) (by decide) e1 e2
      exact br_f e1 (br_f e2 (br_f (by decide) (fin (fun P h => ygo P (br_f (by decide) (br_f (by decide) (br_f e1 (br_f (by decide) (br_f (by decide) (br_t (Int32.not_lt.mp e2) h))))))) (fun _ => ⟨N, n3, n1, n2⟩) (fun z => absurd z (by decide)))))
    · refine br_t rfl ?_
      unfold wX_window_47 wpX_within
      by_cases e1 : v3 < 1
      · exact br_t e1 (br_t rfl (ygo _ (br_f (by decide) (br_f (by decide) (br_t e1 ⟨rfl, I'⟩)))))
      by_cases e2 : 100 < v3
      · exact br_f e1 (br_t e2 (br_t rfl (ygo _ (br_f (by decide) (br_f (by decide) (br_f e1 (br_t rfl (br_f (Int32.not_le.mpr e2) ⟨rfl, I'⟩))))))))
      obtain ⟨N, n1, n2, n3⟩ := ie_rng (a := 1) (b := 100) (by decide) (by decide) e1 e2
      exact br_f e1 (br_f e2 (br_f (by decide) (br_f (by decide) (br_f (by decide) (fin (fun P h => ygo P (br_f (by decide) (br_f (by decide) (br_f e1 (br_t rfl (br_t (Int32.not_lt.mp e2) h)))))) (fun z => absurd z (by decide)) (fun _ => ⟨N, n3, n1, n2⟩))))))
    · refine br_f (by decide) (br_f (by decide) (br_f (by decide) (br_t rfl ?_)))
      unfold wX_window_67 wpX_within
      by_cases e1 : v3 < 1
      · exact br_t e1 (br_t rfl (ygo _ (br_f (by decide) (br_f (by decide) (br_t e1 ⟨rfl, I'⟩)))))
      by_cases e2 : 16 < v3
      · exact br_f e1 (br_t e2 (br_t rfl (ygo _ (br_f (by decide) (br_f (by decide) (br_f e1 (br_f (by decide) (br_f (by decide) (br_f (Int32.not_le.mpr e2) ⟨rfl, I'⟩)))))))))
      obtain ⟨N, n1, n2, n3⟩ := ie_rng (a := 1) (b := 16) (by decide) (by decide) e1 e2
      exact br_f e1 (br_f e2 (br_f (by decide) (fin (fun P h => ygo P (br_f (by decide) (br_f (by decide) (br_f e1 (br_f (by decide) (br_f (by decide) (br_t (Int32.not_lt.mp e2) h))))))) (fun _ => ⟨N, n3, n1, n2⟩) (fun z => absurd z (by decide)))))
    · refine br_f (by decide) (br_f (by decide) (br_f (by decide) (br_f (by decide) (fin (fun P h => ygo P (br_f (by decide) (br_t rfl h))) (fun z => absurd z (by decide)) (fun z => absurd z (by decide))))))
    · refine br_f (by decide) (br_t rfl ?_)
      unfold wX_window_47 wpX_within
      by_cases e1 : v3 < 1
      · exact br_t e1 (br_t rfl (ygo _ (br_f (by decide) (br_f (by decide) (br_t e1 ⟨rfl, I'⟩)))))
      by_cases e2 : 100 < v3
      · exact br_f e1 (br_t e2 (br_t rfl (ygo _ (br_f (by decide) (br_f (by decide) (br_f e1 (br_f (by decide) (br_t rfl (br_f (Int32.not_le.mpr e2) ⟨rfl, I'⟩)))))))))
      obtain ⟨N, n1, n2, n3⟩ := ie_rng (a := 1) (b := 100) (by decide) (by decide) e1 e2
      exact br_f e1 (br_f e2 (br_f (by decide) (br_f (by decide) (br_f (by decide) (fin (fun P h => ygo P (br_f (by decide) (br_f (by decide) (br_f e1 (br_f (by decide) (br_t rfl (br_t (Int32.not_lt.mp e2) h))))))) (fun z => absurd z (by decide)) (fun _ => ⟨N, n3, n1, n2⟩))))))
  · have x1 : ¬ f_conditions = 1 := by rw [d1]; exact ec_neL (b := 1) c0 (by omega) (by decide)
    have y1 : ¬ h_listed = 1 := by rw [d2]; exact ec_neL (b := 1) c0 (by omega) (by decide)
    unfold wpY_window
    exact br_f x1 (yi_slot hs (br_f (by decide) (br_f y1 ⟨rfl, I'⟩)))
end
section
/-! copy, keep, restore: the loops (printed by gencopy.py) -/
section
variable {f_terms f_conditions f_happened f_waiting f_lost f_time f_all f_oldHappened f_oldLost f_oldTime f_oldAll f_kept : Int32} {a_termOp a_termValue a_askedCode a_code a_oldCode a_askedArg a_arg a_oldArg a_askedLength a_stack a_question a_oldQuestion a_list a_oldList a_event a_oldEvent : Nat → Int32} {post : SX → Prop}
theorem xk_164k (K : ∀ z, (∀ j, j < 256 → z j = a_event j) → post (f_terms, f_conditions, f_happened, f_waiting, f_lost, f_time, f_all, f_oldHappened, f_oldLost, f_oldTime, f_oldAll, f_kept, a_termOp, a_termValue, a_askedCode, a_code, a_oldCode, a_askedArg, a_arg, a_oldArg, a_askedLength, a_stack, a_question, a_oldQuestion, a_list, a_oldList, a_event, z)) :
    ∀ (d k : Nat) (z : Nat → Int32), k + d = 256 → (∀ j, j < k → z j = a_event j) → ∀ m, d < m → wX_copy_164 post 0 f_terms f_conditions f_happened f_waiting f_lost f_time f_all f_oldHappened f_oldLost f_oldTime f_oldAll f_kept m (nI k) a_termOp a_termValue a_askedCode a_code a_oldCode a_askedArg a_arg a_oldArg a_askedLength a_stack a_question a_oldQuestion a_list a_oldList a_event z := by
  intro d
  induction d with
  | zero =>
    intro k z hk g m hm
    obtain ⟨m, rfl⟩ : ∃ j, m = j + 1 := ⟨m - 1, by omega⟩
    obtain rfl : k = 256 := by omega
    rw [wX_copy_164]
    exact br_t (Int32.le_refl _) (K z g)
  | succ d ih =>
    intro k z hk g m hm
    obtain ⟨m, rfl⟩ : ∃ j, m = j + 1 := ⟨m - 1, by omega⟩
    rw [wX_copy_164]
    dsimp only
    rw [nI_clamp (by omega)]
    refine br_f (nI_ge (b := 256) (by omega) (by decide)) (br_t rfl ⟨vp_in_nI (by omega) (by omega), vp_in_nI (by omega) (by omega), nm_e (nm_r (nI_1 _) (ih (k + 1) _ (by omega) (fun j hj => ?_) m (by omega)))⟩)
    by_cases c : j = k
    · subst c; exact pk_us
    · rw [pk_un c]; exact g j (by omega)
theorem xk_118k (K : ∀ z, (∀ j, j < 1536 → z j = a_list j) → ∃ n164 : Nat, wX_copy_164 post 0 f_terms f_conditions f_happened f_waiting f_lost f_time f_all f_oldHappened f_oldLost f_oldTime f_oldAll f_kept n164 0 a_termOp a_termValue a_askedCode a_code a_oldCode a_askedArg a_arg a_oldArg a_askedLength a_stack a_question a_oldQuestion a_list z a_event a_oldEvent) :
    ∀ (d k : Nat) (z : Nat → Int32), k + d = 1536 → (∀ j, j < k → z j = a_list j) → ∀ m, d < m → wX_copy_118 post 0 f_terms f_conditions f_happened f_waiting f_lost f_time f_all f_oldHappened f_oldLost f_oldTime f_oldAll f_kept m (nI k) a_termOp a_termValue a_askedCode a_code a_oldCode a_askedArg a_arg a_oldArg a_askedLength a_stack a_question a_oldQuestion a_list z a_event a_oldEvent := by
  intro d
  induction d with
  | zero =>
    intro k z hk g m hm
    obtain ⟨m, rfl⟩ : ∃ j, m = j + 1 := ⟨m - 1, by omega⟩
    obtain rfl : k = 1536 := by omega
    rw [wX_copy_118]
    exact br_t (Int32.le_refl _) (K z g)
  | succ d ih =>
    intro k z hk g m hm
    obtain ⟨m, rfl⟩ : ∃ j, m = j + 1 := ⟨m - 1, by omega⟩
    rw [wX_copy_118]
    dsimp only
    rw [nI_clamp (by omega)]
    refine br_f (nI_ge (b := 1536) (by omega) (by decide)) (br_t rfl ⟨vp_in_nI (by omega) (by omega), vp_in_nI (by omega) (by omega), nm_e (nm_r (nI_1 _) (ih (k + 1) _ (by omega) (fun j hj => ?_) m (by omega)))⟩)
    by_cases c : j = k
    · subst c; exact pk_us
    · rw [pk_un c]; exact g j (by omega)
theorem xk_48k (hs : ie_b a_code) (hd : ie_b a_oldCode) (K : ∀ z w, (∀ j, j < 216 → z j = a_code j ∧ w j = a_arg j) → ie_b z → ∃ n118 : Nat, wX_copy_118 post 0 f_terms f_conditions f_happened f_waiting f_lost f_time f_all f_oldHappened f_oldLost f_oldTime f_oldAll f_kept n118 0 a_termOp a_termValue a_askedCode a_code z a_askedArg a_arg w a_askedLength a_stack a_question a_oldQuestion a_list a_oldList a_event a_oldEvent) :
    ∀ (d k : Nat) (z w : Nat → Int32), k + d = 216 → (∀ j, j < k → z j = a_code j ∧ w j = a_arg j) → ie_b z → ∀ m, d < m → wX_copy_48 post 0 f_terms f_conditions f_happened f_waiting f_lost f_time f_all f_oldHappened f_oldLost f_oldTime f_oldAll f_kept m (nI k) a_termOp a_termValue a_askedCode a_code z a_askedArg a_arg w a_askedLength a_stack a_question a_oldQuestion a_list a_oldList a_event a_oldEvent := by
  intro d
  induction d with
  | zero =>
    intro k z w hk g hb m hm
    obtain ⟨m, rfl⟩ : ∃ j, m = j + 1 := ⟨m - 1, by omega⟩
    obtain rfl : k = 216 := by omega
    rw [wX_copy_48]
    exact br_t (Int32.le_refl _) (K z w g hb)
  | succ d ih =>
    intro k z w hk g hb m hm
    obtain ⟨m, rfl⟩ : ∃ j, m = j + 1 := ⟨m - 1, by omega⟩
    rw [wX_copy_48]
    dsimp only
    rw [nI_clamp (by omega), hs k]
    refine br_f (nI_ge (b := 216) (by omega) (by decide)) (br_t rfl ⟨vp_in_nI (by omega) (by omega), vp_in_nI (by omega) (by omega), nm_e ⟨vp_in_nI (by omega) (by omega), vp_in_nI (by omega) (by omega), nm_e (nm_r (nI_1 _) (ih (k + 1) _ _ (by omega) (fun j hj => ?_) (fun j => ?_) m (by omega)))⟩⟩)
    · by_cases c : j = k
      · subst c; exact ⟨pk_us, pk_us⟩
      · rw [pk_un c, pk_un c]; exact g j (by omega)
    · by_cases c : j = k
      · subst c; rw [pk_us]; exact hs j
      · rw [pk_un c]; exact hb j
theorem xk_2k (K : ∀ z, (∀ j, j < 384 → z j = a_question j) → ∃ n48 : Nat, wX_copy_48 post 0 f_terms f_conditions f_happened f_waiting f_lost f_time f_all f_oldHappened f_oldLost f_oldTime f_oldAll f_kept n48 0 a_termOp a_termValue a_askedCode a_code a_oldCode a_askedArg a_arg a_oldArg a_askedLength a_stack a_question z a_list a_oldList a_event a_oldEvent) :
    ∀ (d k : Nat) (z : Nat → Int32), k + d = 384 → (∀ j, j < k → z j = a_question j) → ∀ m, d < m → wX_copy_2 post 0 f_terms f_conditions f_happened f_waiting f_lost f_time f_all f_oldHappened f_oldLost f_oldTime f_oldAll f_kept m (nI k) a_termOp a_termValue a_askedCode a_code a_oldCode a_askedArg a_arg a_oldArg a_askedLength a_stack a_question z a_list a_oldList a_event a_oldEvent := by
  intro d
  induction d with
  | zero =>
    intro k z hk g m hm
    obtain ⟨m, rfl⟩ : ∃ j, m = j + 1 := ⟨m - 1, by omega⟩
    obtain rfl : k = 384 := by omega
    rw [wX_copy_2]
    exact br_t (Int32.le_refl _) (K z g)
  | succ d ih =>
    intro k z hk g m hm
    obtain ⟨m, rfl⟩ : ∃ j, m = j + 1 := ⟨m - 1, by omega⟩
    rw [wX_copy_2]
    dsimp only
    rw [nI_clamp (by omega)]
    refine br_f (nI_ge (b := 384) (by omega) (by decide)) (br_t rfl ⟨vp_in_nI (by omega) (by omega), vp_in_nI (by omega) (by omega), nm_e (nm_r (nI_1 _) (ih (k + 1) _ (by omega) (fun j hj => ?_) m (by omega)))⟩)
    by_cases c : j = k
    · subst c; exact pk_us
    · rw [pk_un c]; exact g j (by omega)
theorem xk_copyk (hs : ie_b a_code) (hd : ie_b a_oldCode) (K : ∀ zq zc za zl ze, (∀ j, j < 384 → zq j = a_question j) → (∀ j, j < 216 → zc j = a_code j ∧ za j = a_arg j) → ie_b zc → (∀ j, j < 1536 → zl j = a_list j) → (∀ j, j < 256 → ze j = a_event j) → post (f_terms, f_conditions, f_happened, f_waiting, f_lost, f_time, f_all, f_oldHappened, f_oldLost, f_oldTime, f_oldAll, f_kept, a_termOp, a_termValue, a_askedCode, a_code, zc, a_askedArg, a_arg, za, a_askedLength, a_stack, a_question, zq, a_list, zl, a_event, ze)) : wpX_copy post (f_terms, f_conditions, f_happened, f_waiting, f_lost, f_time, f_all, f_oldHappened, f_oldLost, f_oldTime, f_oldAll, f_kept, a_termOp, a_termValue, a_askedCode, a_code, a_oldCode, a_askedArg, a_arg, a_oldArg, a_askedLength, a_stack, a_question, a_oldQuestion, a_list, a_oldList, a_event, a_oldEvent) 0 := by
  unfold wpX_copy
  refine ⟨385, xk_2k (fun zq hq => ⟨217, xk_48k hs hd (fun zc za hc hb => ⟨1537, xk_118k (fun zl hl => ⟨257, xk_164k (fun ze he => K zq zc za zl ze hq hc hb hl he) 256 0 a_oldEvent (by omega) (fun j hj => by omega) 257 (by omega)⟩) 1536 0 a_oldList (by omega) (fun j hj => by omega) 1537 (by omega)⟩) 216 0 a_oldCode a_oldArg (by omega) (fun j hj => by omega) hd 217 (by omega)⟩) 384 0 a_oldQuestion (by omega) (fun j hj => by omega) 385 (by omega)⟩
theorem xk_164r (K : ∀ z, (∀ j, j < 256 → z j = a_oldEvent j) → post (f_terms, f_conditions, f_happened, f_waiting, f_lost, f_time, f_all, f_oldHappened, f_oldLost, f_oldTime, f_oldAll, f_kept, a_termOp, a_termValue, a_askedCode, a_code, a_oldCode, a_askedArg, a_arg, a_oldArg, a_askedLength, a_stack, a_question, a_oldQuestion, a_list, a_oldList, z, a_oldEvent)) :
    ∀ (d k : Nat) (z : Nat → Int32), k + d = 256 → (∀ j, j < k → z j = a_oldEvent j) → ∀ m, d < m → wX_copy_164 post 1 f_terms f_conditions f_happened f_waiting f_lost f_time f_all f_oldHappened f_oldLost f_oldTime f_oldAll f_kept m (nI k) a_termOp a_termValue a_askedCode a_code a_oldCode a_askedArg a_arg a_oldArg a_askedLength a_stack a_question a_oldQuestion a_list a_oldList z a_oldEvent := by
  intro d
  induction d with
  | zero =>
    intro k z hk g m hm
    obtain ⟨m, rfl⟩ : ∃ j, m = j + 1 := ⟨m - 1, by omega⟩
    obtain rfl : k = 256 := by omega
    rw [wX_copy_164]
    exact br_t (Int32.le_refl _) (K z g)
  | succ d ih =>
    intro k z hk g m hm
    obtain ⟨m, rfl⟩ : ∃ j, m = j + 1 := ⟨m - 1, by omega⟩
    rw [wX_copy_164]
    dsimp only
    rw [nI_clamp (by omega)]
    refine br_f (nI_ge (b := 256) (by omega) (by decide)) (br_f (by decide) ⟨vp_in_nI (by omega) (by omega), vp_in_nI (by omega) (by omega), nm_e (nm_r (nI_1 _) (ih (k + 1) _ (by omega) (fun j hj => ?_) m (by omega)))⟩)
    by_cases c : j = k
    · subst c; exact pk_us
    · rw [pk_un c]; exact g j (by omega)
theorem xk_118r (K : ∀ z, (∀ j, j < 1536 → z j = a_oldList j) → ∃ n164 : Nat, wX_copy_164 post 1 f_terms f_conditions f_happened f_waiting f_lost f_time f_all f_oldHappened f_oldLost f_oldTime f_oldAll f_kept n164 0 a_termOp a_termValue a_askedCode a_code a_oldCode a_askedArg a_arg a_oldArg a_askedLength a_stack a_question a_oldQuestion z a_oldList a_event a_oldEvent) :
    ∀ (d k : Nat) (z : Nat → Int32), k + d = 1536 → (∀ j, j < k → z j = a_oldList j) → ∀ m, d < m → wX_copy_118 post 1 f_terms f_conditions f_happened f_waiting f_lost f_time f_all f_oldHappened f_oldLost f_oldTime f_oldAll f_kept m (nI k) a_termOp a_termValue a_askedCode a_code a_oldCode a_askedArg a_arg a_oldArg a_askedLength a_stack a_question a_oldQuestion z a_oldList a_event a_oldEvent := by
  intro d
  induction d with
  | zero =>
    intro k z hk g m hm
    obtain ⟨m, rfl⟩ : ∃ j, m = j + 1 := ⟨m - 1, by omega⟩
    obtain rfl : k = 1536 := by omega
    rw [wX_copy_118]
    exact br_t (Int32.le_refl _) (K z g)
  | succ d ih =>
    intro k z hk g m hm
    obtain ⟨m, rfl⟩ : ∃ j, m = j + 1 := ⟨m - 1, by omega⟩
    rw [wX_copy_118]
    dsimp only
    rw [nI_clamp (by omega)]
    refine br_f (nI_ge (b := 1536) (by omega) (by decide)) (br_f (by decide) ⟨vp_in_nI (by omega) (by omega), vp_in_nI (by omega) (by omega), nm_e (nm_r (nI_1 _) (ih (k + 1) _ (by omega) (fun j hj => ?_) m (by omega)))⟩)
    by_cases c : j = k
    · subst c; exact pk_us
    · rw [pk_un c]; exact g j (by omega)
theorem xk_48r (hs : ie_b a_oldCode) (hd : ie_b a_code) (K : ∀ z w, (∀ j, j < 216 → z j = a_oldCode j ∧ w j = a_oldArg j) → ie_b z → ∃ n118 : Nat, wX_copy_118 post 1 f_terms f_conditions f_happened f_waiting f_lost f_time f_all f_oldHappened f_oldLost f_oldTime f_oldAll f_kept n118 0 a_termOp a_termValue a_askedCode z a_oldCode a_askedArg w a_oldArg a_askedLength a_stack a_question a_oldQuestion a_list a_oldList a_event a_oldEvent) :
    ∀ (d k : Nat) (z w : Nat → Int32), k + d = 216 → (∀ j, j < k → z j = a_oldCode j ∧ w j = a_oldArg j) → ie_b z → ∀ m, d < m → wX_copy_48 post 1 f_terms f_conditions f_happened f_waiting f_lost f_time f_all f_oldHappened f_oldLost f_oldTime f_oldAll f_kept m (nI k) a_termOp a_termValue a_askedCode z a_oldCode a_askedArg w a_oldArg a_askedLength a_stack a_question a_oldQuestion a_list a_oldList a_event a_oldEvent := by
  intro d
  induction d with
  | zero =>
    intro k z w hk g hb m hm
    obtain ⟨m, rfl⟩ : ∃ j, m = j + 1 := ⟨m - 1, by omega⟩
    obtain rfl : k = 216 := by omega
    rw [wX_copy_48]
    exact br_t (Int32.le_refl _) (K z w g hb)
  | succ d ih =>
    intro k z w hk g hb m hm
    obtain ⟨m, rfl⟩ : ∃ j, m = j + 1 := ⟨m - 1, by omega⟩
    rw [wX_copy_48]
    dsimp only
    rw [nI_clamp (by omega), hs k]
    refine br_f (nI_ge (b := 216) (by omega) (by decide)) (br_f (by decide) ⟨vp_in_nI (by omega) (by omega), vp_in_nI (by omega) (by omega), nm_e ⟨vp_in_nI (by omega) (by omega), vp_in_nI (by omega) (by omega), nm_e (nm_r (nI_1 _) (ih (k + 1) _ _ (by omega) (fun j hj => ?_) (fun j => ?_) m (by omega)))⟩⟩)
    · by_cases c : j = k
      · subst c; exact ⟨pk_us, pk_us⟩
      · rw [pk_un c, pk_un c]; exact g j (by omega)
    · by_cases c : j = k
      · subst c; rw [pk_us]; exact hs j
      · rw [pk_un c]; exact hb j
theorem xk_2r (K : ∀ z, (∀ j, j < 384 → z j = a_oldQuestion j) → ∃ n48 : Nat, wX_copy_48 post 1 f_terms f_conditions f_happened f_waiting f_lost f_time f_all f_oldHappened f_oldLost f_oldTime f_oldAll f_kept n48 0 a_termOp a_termValue a_askedCode a_code a_oldCode a_askedArg a_arg a_oldArg a_askedLength a_stack z a_oldQuestion a_list a_oldList a_event a_oldEvent) :
    ∀ (d k : Nat) (z : Nat → Int32), k + d = 384 → (∀ j, j < k → z j = a_oldQuestion j) → ∀ m, d < m → wX_copy_2 post 1 f_terms f_conditions f_happened f_waiting f_lost f_time f_all f_oldHappened f_oldLost f_oldTime f_oldAll f_kept m (nI k) a_termOp a_termValue a_askedCode a_code a_oldCode a_askedArg a_arg a_oldArg a_askedLength a_stack z a_oldQuestion a_list a_oldList a_event a_oldEvent := by
  intro d
  induction d with
  | zero =>
    intro k z hk g m hm
    obtain ⟨m, rfl⟩ : ∃ j, m = j + 1 := ⟨m - 1, by omega⟩
    obtain rfl : k = 384 := by omega
    rw [wX_copy_2]
    exact br_t (Int32.le_refl _) (K z g)
  | succ d ih =>
    intro k z hk g m hm
    obtain ⟨m, rfl⟩ : ∃ j, m = j + 1 := ⟨m - 1, by omega⟩
    rw [wX_copy_2]
    dsimp only
    rw [nI_clamp (by omega)]
    refine br_f (nI_ge (b := 384) (by omega) (by decide)) (br_f (by decide) ⟨vp_in_nI (by omega) (by omega), vp_in_nI (by omega) (by omega), nm_e (nm_r (nI_1 _) (ih (k + 1) _ (by omega) (fun j hj => ?_) m (by omega)))⟩)
    by_cases c : j = k
    · subst c; exact pk_us
    · rw [pk_un c]; exact g j (by omega)
theorem xk_copyr (hs : ie_b a_oldCode) (hd : ie_b a_code) (K : ∀ zq zc za zl ze, (∀ j, j < 384 → zq j = a_oldQuestion j) → (∀ j, j < 216 → zc j = a_oldCode j ∧ za j = a_oldArg j) → ie_b zc → (∀ j, j < 1536 → zl j = a_oldList j) → (∀ j, j < 256 → ze j = a_oldEvent j) → post (f_terms, f_conditions, f_happened, f_waiting, f_lost, f_time, f_all, f_oldHappened, f_oldLost, f_oldTime, f_oldAll, f_kept, a_termOp, a_termValue, a_askedCode, zc, a_oldCode, a_askedArg, za, a_oldArg, a_askedLength, a_stack, zq, a_oldQuestion, zl, a_oldList, ze, a_oldEvent)) : wpX_copy post (f_terms, f_conditions, f_happened, f_waiting, f_lost, f_time, f_all, f_oldHappened, f_oldLost, f_oldTime, f_oldAll, f_kept, a_termOp, a_termValue, a_askedCode, a_code, a_oldCode, a_askedArg, a_arg, a_oldArg, a_askedLength, a_stack, a_question, a_oldQuestion, a_list, a_oldList, a_event, a_oldEvent) 1 := by
  unfold wpX_copy
  refine ⟨385, xk_2r (fun zq hq => ⟨217, xk_48r hs hd (fun zc za hc hb => ⟨1537, xk_118r (fun zl hl => ⟨257, xk_164r (fun ze he => K zq zc za zl ze hq hc hb hl he) 256 0 a_event (by omega) (fun j hj => by omega) 257 (by omega)⟩) 1536 0 a_list (by omega) (fun j hj => by omega) 1537 (by omega)⟩) 216 0 a_code a_arg (by omega) (fun j hj => by omega) hd 217 (by omega)⟩) 384 0 a_question (by omega) (fun j hj => by omega) 385 (by omega)⟩
end
section
variable {h_terms h_listed h_kept h_waits h_begun h_has h_out : Int32} {b_term b_list b_q b_ev b_g b_keptQ b_keptEv b_keptG b_waiting b_stack b_met b_view b_sorted b_breaks : Nat → Int32} {post : SY → Prop}
theorem yk_56 (K : ∀ z, (∀ j, j < 4 → z j = b_g j) → post (h_terms, h_listed, 1, h_waits, h_begun, h_has, h_out, b_term, b_list, b_q, b_ev, b_g, b_keptQ, b_keptEv, z, b_waiting, b_stack, b_met, b_view, b_sorted, b_breaks)) :
    ∀ (d k : Nat) (z : Nat → Int32), k + d = 4 → (∀ j, j < k → z j = b_g j) → ∀ m, d < m → wY_keep_56 post h_terms h_listed h_kept h_waits h_begun h_has h_out m (nI k) b_term b_list b_q b_ev b_g b_keptQ b_keptEv z b_waiting b_stack b_met b_view b_sorted b_breaks := by
  intro d
  induction d with
  | zero =>
    intro k z hk g m hm
    obtain ⟨m, rfl⟩ : ∃ j, m = j + 1 := ⟨m - 1, by omega⟩
    obtain rfl : k = 4 := by omega
    rw [wY_keep_56]
    exact br_t (Int32.le_refl _) (K z g)
  | succ d ih =>
    intro k z hk g m hm
    obtain ⟨m, rfl⟩ : ∃ j, m = j + 1 := ⟨m - 1, by omega⟩
    rw [wY_keep_56]
    dsimp only
    rw [nI_clamp (by omega)]
    refine br_f (nI_ge (b := 4) (by omega) (by decide)) ⟨vp_in_nI (by omega) (by omega), vp_in_nI (by omega) (by omega), nm_e (nm_r (nI_1 _) (ih (k + 1) _ (by omega) (fun j hj => ?_) m (by omega)))⟩
    by_cases c : j = k
    · subst c; exact pk_us
    · rw [pk_un c]; exact g j (by omega)
theorem yk_29 (K : ∀ z, (∀ j, j < 256 → z j = b_ev j) → ∃ n56 : Nat, wY_keep_56 post h_terms h_listed h_kept h_waits h_begun h_has h_out n56 0 b_term b_list b_q b_ev b_g b_keptQ z b_keptG b_waiting b_stack b_met b_view b_sorted b_breaks) :
    ∀ (d k : Nat) (z : Nat → Int32), k + d = 256 → (∀ j, j < k → z j = b_ev j) → ∀ m, d < m → wY_keep_29 post h_terms h_listed h_kept h_waits h_begun h_has h_out m (nI k) b_term b_list b_q b_ev b_g b_keptQ z b_keptG b_waiting b_stack b_met b_view b_sorted b_breaks := by
  intro d
  induction d with
  | zero =>
    intro k z hk g m hm
    obtain ⟨m, rfl⟩ : ∃ j, m = j + 1 := ⟨m - 1, by omega⟩
    obtain rfl : k = 256 := by omega
    rw [wY_keep_29]
    exact br_t (Int32.le_refl _) (K z g)
  | succ d ih =>
    intro k z hk g m hm
    obtain ⟨m, rfl⟩ : ∃ j, m = j + 1 := ⟨m - 1, by omega⟩
    rw [wY_keep_29]
    dsimp only
    rw [nI_clamp (by omega)]
    refine br_f (nI_ge (b := 256) (by omega) (by decide)) ⟨vp_in_nI (by omega) (by omega), vp_in_nI (by omega) (by omega), nm_e (nm_r (nI_1 _) (ih (k + 1) _ (by omega) (fun j hj => ?_) m (by omega)))⟩
    by_cases c : j = k
    · subst c; exact pk_us
    · rw [pk_un c]; exact g j (by omega)
theorem yk_2 (K : ∀ z, (∀ j, j < 600 → z j = b_q j) → ∃ n29 : Nat, wY_keep_29 post h_terms h_listed h_kept h_waits h_begun h_has h_out n29 0 b_term b_list b_q b_ev b_g z b_keptEv b_keptG b_waiting b_stack b_met b_view b_sorted b_breaks) :
    ∀ (d k : Nat) (z : Nat → Int32), k + d = 600 → (∀ j, j < k → z j = b_q j) → ∀ m, d < m → wY_keep_2 post h_terms h_listed h_kept h_waits h_begun h_has h_out m (nI k) b_term b_list b_q b_ev b_g z b_keptEv b_keptG b_waiting b_stack b_met b_view b_sorted b_breaks := by
  intro d
  induction d with
  | zero =>
    intro k z hk g m hm
    obtain ⟨m, rfl⟩ : ∃ j, m = j + 1 := ⟨m - 1, by omega⟩
    obtain rfl : k = 600 := by omega
    rw [wY_keep_2]
    exact br_t (Int32.le_refl _) (K z g)
  | succ d ih =>
    intro k z hk g m hm
    obtain ⟨m, rfl⟩ : ∃ j, m = j + 1 := ⟨m - 1, by omega⟩
    rw [wY_keep_2]
    dsimp only
    rw [nI_clamp (by omega)]
    refine br_f (nI_ge (b := 600) (by omega) (by decide)) ⟨vp_in_nI (by omega) (by omega), vp_in_nI (by omega) (by omega), nm_e (nm_r (nI_1 _) (ih (k + 1) _ (by omega) (fun j hj => ?_) m (by omega)))⟩
    by_cases c : j = k
    · subst c; exact pk_us
    · rw [pk_un c]; exact g j (by omega)
theorem yk_keep (K : ∀ zq ze zg, (∀ j, j < 600 → zq j = b_q j) → (∀ j, j < 256 → ze j = b_ev j) → (∀ j, j < 4 → zg j = b_g j) → post (h_terms, h_listed, 1, h_waits, h_begun, h_has, h_out, b_term, b_list, b_q, b_ev, b_g, zq, ze, zg, b_waiting, b_stack, b_met, b_view, b_sorted, b_breaks)) : wpY_keep post (h_terms, h_listed, h_kept, h_waits, h_begun, h_has, h_out, b_term, b_list, b_q, b_ev, b_g, b_keptQ, b_keptEv, b_keptG, b_waiting, b_stack, b_met, b_view, b_sorted, b_breaks) := by
  unfold wpY_keep
  exact ⟨601, yk_2 (fun zq hq => ⟨257, yk_29 (fun ze he => ⟨5, yk_56 (fun zg hg => K zq ze zg hq he hg) 4 0 b_keptG (by omega) (fun j hj => by omega) 5 (by omega)⟩) 256 0 b_keptEv (by omega) (fun j hj => by omega) 257 (by omega)⟩) 600 0 b_keptQ (by omega) (fun j hj => by omega) 601 (by omega)⟩
end
section
variable {h_terms h_listed h_kept h_waits h_begun h_has h_out : Int32} {b_term b_list b_q b_ev b_g b_keptQ b_keptEv b_keptG b_waiting b_stack b_met b_view b_sorted b_breaks : Nat → Int32} {post : Int32 → SY → Prop}
theorem yk_65 (K : ∀ z, (∀ j, j < 4 → z j = b_keptG j) → post 1 (h_terms, h_listed, h_kept, h_waits, h_begun, h_has, h_out, b_term, b_list, b_q, b_ev, z, b_keptQ, b_keptEv, b_keptG, b_waiting, b_stack, b_met, b_view, b_sorted, b_breaks)) :
    ∀ (d k : Nat) (z : Nat → Int32), k + d = 4 → (∀ j, j < k → z j = b_keptG j) → ∀ m, d < m → wY_restore_65 post h_terms h_listed h_kept h_waits h_begun h_has h_out m (nI k) b_term b_list b_q b_ev z b_keptQ b_keptEv b_keptG b_waiting b_stack b_met b_view b_sorted b_breaks := by
  intro d
  induction d with
  | zero =>
    intro k z hk g m hm
    obtain ⟨m, rfl⟩ : ∃ j, m = j + 1 := ⟨m - 1, by omega⟩
    obtain rfl : k = 4 := by omega
    rw [wY_restore_65]
    exact br_t (Int32.le_refl _) (K z g)
  | succ d ih =>
    intro k z hk g m hm
    obtain ⟨m, rfl⟩ : ∃ j, m = j + 1 := ⟨m - 1, by omega⟩
    rw [wY_restore_65]
    dsimp only
    rw [nI_clamp (by omega)]
    refine br_f (nI_ge (b := 4) (by omega) (by decide)) ⟨vp_in_nI (by omega) (by omega), vp_in_nI (by omega) (by omega), nm_e (nm_r (nI_1 _) (ih (k + 1) _ (by omega) (fun j hj => ?_) m (by omega)))⟩
    by_cases c : j = k
    · subst c; exact pk_us
    · rw [pk_un c]; exact g j (by omega)
theorem yk_38 (K : ∀ z, (∀ j, j < 256 → z j = b_keptEv j) → ∃ n65 : Nat, wY_restore_65 post h_terms h_listed h_kept h_waits h_begun h_has h_out n65 0 b_term b_list b_q z b_g b_keptQ b_keptEv b_keptG b_waiting b_stack b_met b_view b_sorted b_breaks) :
    ∀ (d k : Nat) (z : Nat → Int32), k + d = 256 → (∀ j, j < k → z j = b_keptEv j) → ∀ m, d < m → wY_restore_38 post h_terms h_listed h_kept h_waits h_begun h_has h_out m (nI k) b_term b_list b_q z b_g b_keptQ b_keptEv b_keptG b_waiting b_stack b_met b_view b_sorted b_breaks := by
  intro d
  induction d with
  | zero =>
    intro k z hk g m hm
    obtain ⟨m, rfl⟩ : ∃ j, m = j + 1 := ⟨m - 1, by omega⟩
    obtain rfl : k = 256 := by omega
    rw [wY_restore_38]
    exact br_t (Int32.le_refl _) (K z g)
  | succ d ih =>
    intro k z hk g m hm
    obtain ⟨m, rfl⟩ : ∃ j, m = j + 1 := ⟨m - 1, by omega⟩
    rw [wY_restore_38]
    dsimp only
    rw [nI_clamp (by omega)]
    refine br_f (nI_ge (b := 256) (by omega) (by decide)) ⟨vp_in_nI (by omega) (by omega), vp_in_nI (by omega) (by omega), nm_e (nm_r (nI_1 _) (ih (k + 1) _ (by omega) (fun j hj => ?_) m (by omega)))⟩
    by_cases c : j = k
    · subst c; exact pk_us
    · rw [pk_un c]; exact g j (by omega)
theorem yk_11 (K : ∀ z, (∀ j, j < 600 → z j = b_keptQ j) → ∃ n38 : Nat, wY_restore_38 post h_terms h_listed h_kept h_waits h_begun h_has h_out n38 0 b_term b_list z b_ev b_g b_keptQ b_keptEv b_keptG b_waiting b_stack b_met b_view b_sorted b_breaks) :
    ∀ (d k : Nat) (z : Nat → Int32), k + d = 600 → (∀ j, j < k → z j = b_keptQ j) → ∀ m, d < m → wY_restore_11 post h_terms h_listed h_kept h_waits h_begun h_has h_out m (nI k) b_term b_list z b_ev b_g b_keptQ b_keptEv b_keptG b_waiting b_stack b_met b_view b_sorted b_breaks := by
  intro d
  induction d with
  | zero =>
    intro k z hk g m hm
    obtain ⟨m, rfl⟩ : ∃ j, m = j + 1 := ⟨m - 1, by omega⟩
    obtain rfl : k = 600 := by omega
    rw [wY_restore_11]
    exact br_t (Int32.le_refl _) (K z g)
  | succ d ih =>
    intro k z hk g m hm
    obtain ⟨m, rfl⟩ : ∃ j, m = j + 1 := ⟨m - 1, by omega⟩
    rw [wY_restore_11]
    dsimp only
    rw [nI_clamp (by omega)]
    refine br_f (nI_ge (b := 600) (by omega) (by decide)) ⟨vp_in_nI (by omega) (by omega), vp_in_nI (by omega) (by omega), nm_e (nm_r (nI_1 _) (ih (k + 1) _ (by omega) (fun j hj => ?_) m (by omega)))⟩
    by_cases c : j = k
    · subst c; exact pk_us
    · rw [pk_un c]; exact g j (by omega)
theorem yk_restore (hk : ¬ h_kept = 0) (K : ∀ zq ze zg, (∀ j, j < 600 → zq j = b_keptQ j) → (∀ j, j < 256 → ze j = b_keptEv j) → (∀ j, j < 4 → zg j = b_keptG j) → post 1 (h_terms, h_listed, h_kept, h_waits, h_begun, h_has, h_out, b_term, b_list, zq, ze, zg, b_keptQ, b_keptEv, b_keptG, b_waiting, b_stack, b_met, b_view, b_sorted, b_breaks)) : wpY_restore post (h_terms, h_listed, h_kept, h_waits, h_begun, h_has, h_out, b_term, b_list, b_q, b_ev, b_g, b_keptQ, b_keptEv, b_keptG, b_waiting, b_stack, b_met, b_view, b_sorted, b_breaks) := by
  unfold wpY_restore
  exact br_f hk ⟨601, yk_11 (fun zq hq => ⟨257, yk_38 (fun ze he => ⟨5, yk_65 (fun zg hg => K zq ze zg hq he hg) 4 0 b_g (by omega) (fun j hj => by omega) 5 (by omega)⟩) 256 0 b_ev (by omega) (fun j hj => by omega) 257 (by omega)⟩) 600 0 b_q (by omega) (fun j hj => by omega) 601 (by omega)⟩
end
end
section
/-! keep, restore -/
theorem es_core_cp {B : Nat} {hp lost tme all : Int32} {aq cd ar al ev bq be g aq' cd' ar' al' ev' bq' be' g' : Nat → Int32} (c : es_core B hp lost tme all aq cd ar al ev bq be g) (hq : ∀ j, j < 384 → aq' j = aq j) (hc : ∀ j, j < 216 → cd' j = cd j ∧ ar' j = ar j) (hl : ∀ j, j < 1536 → al' j = al j) (he : ∀ j, j < 256 → ev' j = ev j)
    (hy : ∀ j, j < 600 → bq' j = bq j) (hb : ∀ j, j < 256 → be' j = be j) (hg : ∀ j, j < 4 → g' j = g j) : es_core B hp lost tme all aq' cd' ar' al' ev' bq' be' g' := by
  obtain ⟨H, T, a1, a2, a3, a4, a5, a6, a7, a8, a9, a10, a11⟩ := c
  have e4 : ∀ k, k < H → es_tm ev' k = es_tm ev k := fun k hk => congrArg Int32.toNatClampNeg (he _ (by omega))
  refine ⟨H, T, a1, (hg 0 (by decide)).trans a2, a3, a4, (hg 2 (by decide)).trans a5, a6, (hg 1 (by decide)).trans a7, (hg 3 (by decide)).trans a8, fun j hj => ?_, ⟨fun k hk => ?_, fun a b hab hb => ?_⟩, fun t ht => ?_⟩
  · rw [hb j (by omega), he j (by omega)]; exact a9 j hj
  · rw [he _ (by omega), e4 k hk]; exact a10.1 k hk
  · rw [e4 a (by omega), e4 b hb]; exact a10.2 a b hab hb
  · obtain ⟨q, l, v, b1, b2, b3, h0, d⟩ := es_sl_E (E' := ev') (fun j hj => (he j (by omega)).symm) a11 t ht
    refine ⟨q, l, v, fun j hj => (hq _ (by omega)).trans (b1 j hj), fun j hj => (hl _ (by omega)).trans (b2 j hj), fun j hj => (hy _ (by omega)).trans (b3 j hj), h0, ?_⟩
    rcases d with d | ⟨d1, d2, d3⟩
    · exact Or.inl d
    · exact Or.inr ⟨d1, d2, es_body_cd (fun j hj => hc _ (by omega)) d3⟩
theorem i_vc_keep {k : Nat} {u : SX} {v : SY} (I : i_Rel k u v) (hk : k + 6 ≤ 3072) : wpX_keep (fun u' => wpY_keep (fun v' => i_Rel (k + 6) u' v') v) u := by
  have I := i_up I
  obtain ⟨f_terms, f_conditions, f_happened, f_waiting, f_lost, f_time, f_all, f_oldHappened, f_oldLost, f_oldTime, f_oldAll, f_kept, a_termOp, a_termValue, a_askedCode, a_code, a_oldCode, a_askedArg, a_arg, a_oldArg, a_askedLength, a_stack, a_question, a_oldQuestion, a_list, a_oldList, a_event, a_oldEvent⟩ := u
  obtain ⟨h_terms, h_listed, h_kept, h_waits, h_begun, h_has, h_out, b_term, b_list, b_q, b_ev, b_g, b_keptQ, b_keptEv, b_keptG, b_waiting, b_stack, b_met, b_view, b_sorted, b_breaks⟩ := v
  obtain ⟨a1, a2, a3, a4, a5, a6, a7, a8, a9⟩ := I
  unfold wpX_keep
  refine xk_copyk a4 a5 (fun zq zc za zl ze h1 h2 h3 h4 h5 => ?_)
  refine yk_keep (fun yq ye yg g1 g2 g3 => ?_)
  exact ⟨a1, a2, a3, a4, h3, a6, rfl, a8, es_core_cp a8 h1 h2 h4 h5 g1 g2 g3⟩
theorem i_vc_restore {k : Nat} {u : SX} {v : SY} (I : i_Rel k u v) (hk : k + 6 ≤ 3072) : wpX_restore (fun r u' => wpY_restore (fun r' v' => r' = r ∧ i_Rel (k + 6) u' v') v) u := by
  have I := i_up I
  obtain ⟨f_terms, f_conditions, f_happened, f_waiting, f_lost, f_time, f_all, f_oldHappened, f_oldLost, f_oldTime, f_oldAll, f_kept, a_termOp, a_termValue, a_askedCode, a_code, a_oldCode, a_askedArg, a_arg, a_oldArg, a_askedLength, a_stack, a_question, a_oldQuestion, a_list, a_oldList, a_event, a_oldEvent⟩ := u
  obtain ⟨h_terms, h_listed, h_kept, h_waits, h_begun, h_has, h_out, b_term, b_list, b_q, b_ev, b_g, b_keptQ, b_keptEv, b_keptG, b_waiting, b_stack, b_met, b_view, b_sorted, b_breaks⟩ := v
  have I' := I
  obtain ⟨a1, a2, a3, a4, a5, a6, a7, a8, a9⟩ := I
  unfold wpX_restore
  by_cases c : f_kept = 0
  · refine br_t c ?_
    unfold wpY_restore
    exact br_t (a7.symm.trans c) ⟨rfl, I'⟩
  · refine br_f c ?_
    refine xk_copyr a5 a4 (fun zq zc za zl ze h1 h2 h3 h4 h5 => ?_)
    refine yk_restore (fun z => c (a7.trans z)) (fun yq ye yg g1 g2 g3 => ?_)
    exact ⟨rfl, a1, a2, a3, h3, a5, a6, a7, es_core_cp a9 h1 h2 h4 h5 g1 g2 g3, a9⟩
end
section
/-! clear -/
def ic_x (j : Nat) : Bool := (decide (10 ≤ j) && decide (j < 15)) || (decide (36 ≤ j) && decide (j < 40))
section
variable {f_terms f_conditions f_happened f_waiting f_lost f_time f_all f_oldHappened f_oldLost f_oldTime f_oldAll f_kept : Int32} {a_termOp a_termValue a_askedCode a_code a_oldCode a_askedArg a_arg a_oldArg a_askedLength a_stack a_question a_oldQuestion a_list a_oldList a_event a_oldEvent : Nat → Int32} {s : Nat} {b : Nat → Int32} {post : SX → Prop}
theorem ic_55 (hs : s < 6) (K : ∀ b', (∀ j, (36 ≤ j ∧ j < 40) → b' j = 0) → (∀ j, j < 36 ∨ 40 ≤ j → b' j = b j) → post (f_terms, f_conditions, f_happened, f_waiting, f_lost, f_time, f_all, f_oldHappened, f_oldLost, f_oldTime, f_oldAll, f_kept, a_termOp, a_termValue, a_askedCode, a_code, a_oldCode, a_askedArg, a_arg, a_oldArg, a_askedLength, a_stack, (ed_sp a_question (64 * s) 64 b'), a_oldQuestion, a_list, a_oldList, a_event, a_oldEvent)) :
    ∀ (d k : Nat) (b' : Nat → Int32), k + d = 40 → 36 ≤ k → (∀ j, (36 ≤ j ∧ j < k) → b' j = 0) → (∀ j, j < 36 ∨ 40 ≤ j → b' j = b j) → ∀ m, d < m → wX_forgetAll_55 post (nI (64 * s)) f_terms f_conditions f_happened f_waiting f_lost f_time f_all f_oldHappened f_oldLost f_oldTime f_oldAll f_kept m (nI (64 * s + k)) a_termOp a_termValue a_askedCode a_code a_oldCode a_askedArg a_arg a_oldArg a_askedLength a_stack (ed_sp a_question (64 * s) 64 b') a_oldQuestion a_list a_oldList a_event a_oldEvent := by
  have q : nI (64 * s) + 36 + 4 = nI (64 * s + 40) := by rw [show nI (64 * s) + 36 = nI (64 * s + 36) from nI_add _ 36]; exact nI_add _ 4
  intro d
  induction d with
  | zero =>
    intro k b' hk h36 g1 g2 m hm
    obtain ⟨m, rfl⟩ : ∃ j, m = j + 1 := ⟨m - 1, by omega⟩
    obtain rfl : k = 40 := by omega
    rw [wX_forgetAll_55]
    exact br_t (by rw [q]; exact Int32.le_refl _) (K b' g1 g2)
  | succ d ih =>
    intro k b' hk h36 g1 g2 m hm
    obtain ⟨m, rfl⟩ : ∃ j, m = j + 1 := ⟨m - 1, by omega⟩
    rw [wX_forgetAll_55]
    dsimp only
    rw [q, nI_clamp (by omega), ed_sp_upd (by omega)]
    refine br_f (nI_ge (by omega) (by omega)) ⟨vp_in_nI (by omega) (by omega), nm_e (nm_r (nI_1 _) (ih (k + 1) _ (by omega) (by omega) (fun j hj => ?_) (fun j hj => ?_) m (by omega)))⟩
    · by_cases c : j = k
      · subst c; exact pk_us
      · rw [pk_un c]; exact g1 j (by omega)
    · rw [pk_un (by omega)]; exact g2 j hj
theorem ic_forget (hs : s < 6) (K : ∀ aq, (∀ j, j < 64 → aq (64 * s + j) = if ic_x j = true then 0 else a_question (64 * s + j)) → (∀ j, j < 64 * s ∨ 64 * s + 64 ≤ j → aq j = a_question j) → post (f_terms, f_conditions, f_happened, f_waiting, f_lost, f_time, f_all, f_oldHappened, f_oldLost, f_oldTime, f_oldAll, f_kept, a_termOp, a_termValue, a_askedCode, a_code, a_oldCode, a_askedArg, a_arg, a_oldArg, a_askedLength, a_stack, aq, a_oldQuestion, a_list, a_oldList, a_event, a_oldEvent)) : wpX_forgetAll post (f_terms, f_conditions, f_happened, f_waiting, f_lost, f_time, f_all, f_oldHappened, f_oldLost, f_oldTime, f_oldAll, f_kept, a_termOp, a_termValue, a_askedCode, a_code, a_oldCode, a_askedArg, a_arg, a_oldArg, a_askedLength, a_stack, a_question, a_oldQuestion, a_list, a_oldList, a_event, a_oldEvent) (nI (64 * s)) := by
  have e1 := ed_sp_of (a := a_question) (B := 64 * s) (n := 64) (b := fun j => a_question (64 * s + j)) (fun _ _ => rfl)
  have main : wpX_forgetAll post (f_terms, f_conditions, f_happened, f_waiting, f_lost, f_time, f_all, f_oldHappened, f_oldLost, f_oldTime, f_oldAll, f_kept, a_termOp, a_termValue, a_askedCode, a_code, a_oldCode, a_askedArg, a_arg, a_oldArg, a_askedLength, a_stack, (ed_sp a_question (64 * s) 64 (fun j => a_question (64 * s + j))), a_oldQuestion, a_list, a_oldList, a_event, a_oldEvent) (nI (64 * s)) := by
    unfold wpX_forgetAll
    refine ⟨ed_qi hs (k := 10) (by decide), nm_r (ed_qw hs (k := 10) (by decide)) ⟨ed_qi hs (k := 11) (by decide), nm_r (ed_qw hs (k := 11) (by decide)) ⟨ed_qi hs (k := 12) (by decide), nm_r (ed_qw hs (k := 12) (by decide)) ⟨ed_qi hs (k := 13) (by decide), nm_r (ed_qw hs (k := 13) (by decide)) ⟨ed_qi hs (k := 14) (by decide), nm_r (ed_qw hs (k := 14) (by decide)) (nm_r (show nI (64 * s) + 36 = nI (64 * s + 36) from nI_add _ 36) ⟨5, ?_⟩)⟩⟩⟩⟩⟩
    refine ic_55 (b := upd (upd (upd (upd (upd (fun j => a_question (64 * s + j)) 10 0) 11 0) 12 0) 13 0) 14 0) hs (fun b' g1 g2 => K _ (fun j hj => ?_) (fun j hj => ed_sp_out hj)) 4 36 _ (by omega) (by omega) (fun j hj => by omega) (fun _ _ => rfl) 5 (by omega)
    rw [ed_sp_get hj]
    unfold ic_x
    by_cases c : 36 ≤ j ∧ j < 40
    · rw [g1 j c, decide_eq_true c.1, decide_eq_true c.2]
      simp
    · rw [g2 j (by omega)]
      by_cases d : 10 ≤ j ∧ j < 15
      · rw [decide_eq_true d.1, decide_eq_true d.2, if_pos (by simp)]
        rcases (show j = 10 ∨ j = 11 ∨ j = 12 ∨ j = 13 ∨ j = 14 by omega) with rfl | rfl | rfl | rfl | rfl <;> rfl
      · rw [if_neg (by simp; omega), pk_un (by omega), pk_un (by omega), pk_un (by omega), pk_un (by omega), pk_un (by omega)]
  rw [e1] at main
  exact main
end
section
variable {f_terms f_conditions f_happened f_waiting f_lost f_time f_all f_oldHappened f_oldLost f_oldTime f_oldAll f_kept : Int32} {a_termOp a_termValue a_askedCode a_code a_oldCode a_askedArg a_arg a_oldArg a_askedLength a_stack a_question a_oldQuestion a_list a_oldList a_event a_oldEvent : Nat → Int32} {x1 : Int32} {post : Int32 → SX → Prop}
theorem ic_27 (K : ∀ aq, (∀ t j, t < 6 → j < 64 → aq (64 * t + j) = if ic_x j = true then 0 else a_question (64 * t + j)) → post x1 (f_terms, f_conditions, f_happened, f_waiting, f_lost, f_time, f_all, f_oldHappened, f_oldLost, f_oldTime, f_oldAll, f_kept, a_termOp, a_termValue, a_askedCode, a_code, a_oldCode, a_askedArg, a_arg, a_oldArg, a_askedLength, a_stack, aq, a_oldQuestion, a_list, a_oldList, a_event, a_oldEvent)) :
    ∀ (d s : Nat) (aq : Nat → Int32), s + d = 6 → (∀ t j, t < 6 → j < 64 → aq (64 * t + j) = if t < s ∧ ic_x j = true then 0 else a_question (64 * t + j)) → ∀ m, d < m → wX_clear_27 post x1 m (nI s) f_terms f_conditions f_happened f_waiting f_lost f_time f_all f_oldHappened f_oldLost f_oldTime f_oldAll f_kept a_termOp a_termValue a_askedCode a_code a_oldCode a_askedArg a_arg a_oldArg a_askedLength a_stack aq a_oldQuestion a_list a_oldList a_event a_oldEvent := by
  intro d
  induction d with
  | zero =>
    intro s aq hs g m hm
    obtain ⟨m, rfl⟩ : ∃ j, m = j + 1 := ⟨m - 1, by omega⟩
    obtain rfl : s = 6 := by omega
    rw [wX_clear_27]
    refine br_t (Int32.le_refl _) (K aq (fun t j ht hj => ?_))
    rw [g t j ht hj]
    by_cases c : ic_x j = true
    · rw [if_pos ⟨ht, c⟩, if_pos c]
    · rw [if_neg (fun z => c z.2), if_neg c]
  | succ d ih =>
    intro s aq hs g m hm
    obtain ⟨m, rfl⟩ : ∃ j, m = j + 1 := ⟨m - 1, by omega⟩
    have q : (64 : Int32) * nI s = nI (64 * s) := by rw [← pk_mul]; rfl
    rw [wX_clear_27]
    refine br_f (nI_ge (b := 6) (by omega) (by decide)) ?_
    rw [q]
    refine ic_forget (by omega) (fun aq' h1 h2 => nm_r (nI_1 _) (ih (s + 1) aq' (by omega) (fun t j ht hj => ?_) m (by omega)))
    by_cases z : t = s
    · subst z
      rw [h1 j hj, g t j ht hj]
      by_cases c : ic_x j = true
      · rw [if_pos c, if_pos ⟨by omega, c⟩]
      · rw [if_neg c, if_neg (fun z => c z.2), if_neg (fun z => c z.2)]
    · rw [h2 _ (by omega), g t j ht hj]
      by_cases c : t < s ∧ ic_x j = true
      · rw [if_pos c, if_pos ⟨by omega, c.2⟩]
      · rw [if_neg c, if_neg (fun w => c ⟨by omega, w.2⟩)]
end
section
variable {h_terms h_listed h_kept h_waits h_begun h_has h_out : Int32} {b_term b_list b_q b_ev b_g b_keptQ b_keptEv b_keptG b_waiting b_stack b_met b_view b_sorted b_breaks : Nat → Int32} {x1 : Int32} {post : Int32 → SY → Prop}
theorem ic_38 {s : Nat} {J : Int32 → (Nat → Int32) → (Nat → Int32) → (Nat → Int32) → (Nat → Int32) → (Nat → Int32) → (Nat → Int32) → (Nat → Int32) → (Nat → Int32) → (Nat → Int32) → (Nat → Int32) → (Nat → Int32) → (Nat → Int32) → (Nat → Int32) → (Nat → Int32) → Prop} (hs : s < 6) (K : ∀ y, (∀ j, (9 ≤ j ∧ j < 20) → y j = 0) → (∀ j, j < 9 ∨ 20 ≤ j → y j = b_q (100 * s + j)) → J (nI (s + 1)) b_term b_list (ed_sp b_q (100 * s) 100 y) b_ev b_g b_keptQ b_keptEv b_keptG b_waiting b_stack b_met b_view b_sorted b_breaks) :
    ∀ (d k : Nat) (y : Nat → Int32), k + d = 20 → 9 ≤ k → (∀ j, (9 ≤ j ∧ j < k) → y j = 0) → (∀ j, j < 9 ∨ 20 ≤ j → y j = b_q (100 * s + j)) → ∀ m, d < m → wY_clear_38 post J x1 (nI s) h_terms h_listed h_kept h_waits h_begun h_has h_out m (nI k) b_term b_list (ed_sp b_q (100 * s) 100 y) b_ev b_g b_keptQ b_keptEv b_keptG b_waiting b_stack b_met b_view b_sorted b_breaks := by
  intro d
  induction d with
  | zero =>
    intro k y hk h9 g1 g2 m hm
    obtain ⟨m, rfl⟩ : ∃ j, m = j + 1 := ⟨m - 1, by omega⟩
    obtain rfl : k = 20 := by omega
    rw [wY_clear_38]
    exact br_t (Int32.le_refl _) (nm_r (nI_1 _) (K y g1 g2))
  | succ d ih =>
    intro k y hk h9 g1 g2 m hm
    obtain ⟨m, rfl⟩ : ∃ j, m = j + 1 := ⟨m - 1, by omega⟩
    rw [wY_clear_38]
    dsimp only
    rw [ed_yw hs (k := k) (by omega)]
    refine br_f (nI_ge (b := 20) (by omega) (by decide)) ⟨ed_yi hs (by omega), nm_e (nm_r (nI_1 _) (ih (k + 1) _ (by omega) (by omega) (fun j hj => ?_) (fun j hj => ?_) m (by omega)))⟩
    · by_cases c : j = k
      · subst c; exact pk_us
      · rw [pk_un c]; exact g1 j (by omega)
    · rw [pk_un (by omega)]; exact g2 j hj
theorem ic_29 (K : ∀ bq, (∀ t j, t < 6 → j < 100 → bq (100 * t + j) = if 9 ≤ j ∧ j < 20 then 0 else b_q (100 * t + j)) → post x1 (h_terms, h_listed, h_kept, h_waits, h_begun, h_has, h_out, b_term, b_list, bq, b_ev, b_g, b_keptQ, b_keptEv, b_keptG, b_waiting, b_stack, b_met, b_view, b_sorted, b_breaks)) :
    ∀ (d s : Nat) (bq : Nat → Int32), s + d = 6 → (∀ t j, t < 6 → j < 100 → bq (100 * t + j) = if t < s ∧ (9 ≤ j ∧ j < 20) then 0 else b_q (100 * t + j)) → ∀ m, d < m → wY_clear_29 post x1 h_terms h_listed h_kept h_waits h_begun h_has h_out m (nI s) b_term b_list bq b_ev b_g b_keptQ b_keptEv b_keptG b_waiting b_stack b_met b_view b_sorted b_breaks := by
  intro d
  induction d with
  | zero =>
    intro s bq hs g m hm
    obtain ⟨m, rfl⟩ : ∃ j, m = j + 1 := ⟨m - 1, by omega⟩
    obtain rfl : s = 6 := by omega
    rw [wY_clear_29]
    refine br_t (Int32.le_refl _) (K bq (fun t j ht hj => ?_))
    rw [g t j ht hj]
    by_cases c : 9 ≤ j ∧ j < 20
    · rw [if_pos ⟨ht, c⟩, if_pos c]
    · rw [if_neg (fun z => c z.2), if_neg c]
  | succ d ih =>
    intro s bq hs g m hm
    obtain ⟨m, rfl⟩ : ∃ j, m = j + 1 := ⟨m - 1, by omega⟩
    have e1 := ed_sp_of (a := bq) (B := 100 * s) (n := 100) (b := fun j => bq (100 * s + j)) (fun _ _ => rfl)
    rw [wY_clear_29]
    refine br_f (nI_ge (b := 6) (by omega) (by decide)) ⟨12, ?_⟩
    have go := ic_38 (post := post) (x1 := x1) (s := s) (J := wY_clear_29 post x1 h_terms h_listed h_kept h_waits h_begun h_has h_out m) (h_terms := h_terms) (h_listed := h_listed) (h_kept := h_kept) (h_waits := h_waits) (h_begun := h_begun) (h_has := h_has) (h_out := h_out) (b_term := b_term) (b_list := b_list) (b_q := bq) (b_ev := b_ev) (b_g := b_g) (b_keptQ := b_keptQ) (b_keptEv := b_keptEv) (b_keptG := b_keptG) (b_waiting := b_waiting) (b_stack := b_stack) (b_met := b_met) (b_view := b_view) (b_sorted := b_sorted) (b_breaks := b_breaks) (by omega) (fun y g1 g2 => ih (s + 1) _ (by omega) (fun t j ht hj => ?_) m (by omega)) 11 9 (fun j => bq (100 * s + j)) (by omega) (by omega) (fun j hj => by omega) (fun _ _ => rfl) 12 (by omega)
    · rw [e1] at go
      exact go
    · by_cases z : t = s
      · subst z
        rw [ed_sp_get hj]
        by_cases c : 9 ≤ j ∧ j < 20
        · rw [g1 j c, if_pos ⟨by omega, c⟩]
        · rw [g2 j (by omega), g t j ht hj, if_neg (fun w => c w.2), if_neg (fun w => c w.2)]
      · rw [ed_sp_out (by omega), g t j ht hj]
        by_cases c : t < s ∧ (9 ≤ j ∧ j < 20)
        · rw [if_pos c, if_pos ⟨by omega, c.2⟩]
        · rw [if_neg c, if_neg (fun w => c ⟨by omega, w.2⟩)]
theorem ic_9 (K : ∀ g, (∀ j, j < 4 → g j = 0) → ∃ n29 : Nat, wY_clear_29 post x1 h_terms h_listed h_kept h_waits h_begun h_has h_out n29 0 b_term b_list b_q b_ev g b_keptQ b_keptEv b_keptG b_waiting b_stack b_met b_view b_sorted b_breaks) :
    ∀ (d k : Nat) (g : Nat → Int32), k + d = 4 → (∀ j, j < k → g j = 0) → ∀ m, d < m → wY_clear_9 post x1 h_terms h_listed h_kept h_waits h_begun h_has h_out m (nI k) b_term b_list b_q b_ev g b_keptQ b_keptEv b_keptG b_waiting b_stack b_met b_view b_sorted b_breaks := by
  intro d
  induction d with
  | zero =>
    intro k g hk h m hm
    obtain ⟨m, rfl⟩ : ∃ j, m = j + 1 := ⟨m - 1, by omega⟩
    obtain rfl : k = 4 := by omega
    rw [wY_clear_9]
    exact br_t (Int32.le_refl _) (K g h)
  | succ d ih =>
    intro k g hk h m hm
    obtain ⟨m, rfl⟩ : ∃ j, m = j + 1 := ⟨m - 1, by omega⟩
    rw [wY_clear_9]
    dsimp only
    rw [nI_clamp (by omega)]
    refine br_f (nI_ge (b := 4) (by omega) (by decide)) ⟨vp_in_nI (by omega) (by omega), nm_e (nm_r (nI_1 _) (ih (k + 1) _ (by omega) (fun j hj => ?_) m (by omega)))⟩
    by_cases c : j = k
    · subst c; exact pk_us
    · rw [pk_un c]; exact h j (by omega)
theorem ic_yclear (K : ∀ bq g, (∀ j, j < 4 → g j = 0) → (∀ t j, t < 6 → j < 100 → bq (100 * t + j) = if 9 ≤ j ∧ j < 20 then 0 else b_q (100 * t + j)) → post (b_g 0) (h_terms, h_listed, h_kept, h_waits, h_begun, h_has, h_out, b_term, b_list, bq, b_ev, g, b_keptQ, b_keptEv, b_keptG, b_waiting, b_stack, b_met, b_view, b_sorted, b_breaks)) : wpY_clear post (h_terms, h_listed, h_kept, h_waits, h_begun, h_has, h_out, b_term, b_list, b_q, b_ev, b_g, b_keptQ, b_keptEv, b_keptG, b_waiting, b_stack, b_met, b_view, b_sorted, b_breaks) := by
  unfold wpY_clear
  refine nm_e ⟨5, ic_9 (fun g hg => ⟨7, ic_29 (fun bq hb => K bq g hg hb) 6 0 b_q (by omega) (fun t j ht hj => ?_) 7 (by omega)⟩) 4 0 b_g (by omega) (fun j hj => by omega) 5 (by omega)⟩
  rw [if_neg (by omega)]
end
theorem i_vc_clear {k : Nat} {u : SX} {v : SY} (I : i_Rel k u v) (hk : k + 6 ≤ 3072) : wpX_clear (fun r u' => wpY_clear (fun r' v' => r' = r ∧ i_Rel (k + 6) u' v') v) u := by
  have I := i_up I
  obtain ⟨f_terms, f_conditions, f_happened, f_waiting, f_lost, f_time, f_all, f_oldHappened, f_oldLost, f_oldTime, f_oldAll, f_kept, a_termOp, a_termValue, a_askedCode, a_code, a_oldCode, a_askedArg, a_arg, a_oldArg, a_askedLength, a_stack, a_question, a_oldQuestion, a_list, a_oldList, a_event, a_oldEvent⟩ := u
  obtain ⟨h_terms, h_listed, h_kept, h_waits, h_begun, h_has, h_out, b_term, b_list, b_q, b_ev, b_g, b_keptQ, b_keptEv, b_keptG, b_waiting, b_stack, b_met, b_view, b_sorted, b_breaks⟩ := v
  obtain ⟨a1, a2, a3, a4, a5, a6, a7, ⟨H, T, b1, b2, b3, b4, b5, b6, b7, b8, b9, b10, b11⟩, a9⟩ := I
  unfold wpX_clear
  refine ⟨7, ic_27 (fun aq hq => ?_) 6 0 a_question (by omega) (fun t j ht hj => by rw [if_neg (by omega)]) 7 (by omega)⟩
  refine ic_yclear (fun bq g hg hb => ⟨b2.trans b1.symm, a1, a2, a3, a4, a5, a6, a7, ⟨0, 0, rfl, hg 0 (by decide), by decide, rfl, hg 2 (by decide), Nat.zero_le _, hg 1 (by decide), hg 3 (by decide), fun j hj => by omega, ⟨fun k hk => by omega, fun a b _ hb => by omega⟩, fun t ht => ?_⟩, a9⟩)
  obtain ⟨q, l, y, c1, c2, c3, h0, d⟩ := b11 t ht
  refine ⟨fun j => if ic_x j = true then 0 else q j, l, fun j => if 9 ≤ j ∧ j < 20 then 0 else y j, fun j hj => ?_, c2, fun j hj => ?_, h0, ?_⟩
  · rw [hq t j ht hj, c1 j hj]
  · rw [hb t j ht hj, c3 j hj]
  · rcases d with d | ⟨d1, d2, d3⟩
    · exact Or.inl d
    · obtain ⟨C, F, e1, e2, e3, e4, e5, e6, e7, b⟩ := d3
      have hy24 : ∀ j, 24 ≤ j → (fun j => if 9 ≤ j ∧ j < 20 then 0 else y j) j = y j := fun j hj => if_neg (by omega)
      have hx : ∀ j, 16 ≤ j → j < 19 → (fun j => if ic_x j = true then 0 else q j) j = q j := fun j h1 h2 => by
        have : ic_x j = false := by unfold ic_x; rw [decide_eq_false (show ¬ j < 15 by omega), decide_eq_false (show ¬ 36 ≤ j by omega)]; simp
        show (if ic_x j = true then 0 else q j) = q j
        rw [this]; rfl
      refine Or.inr ⟨d1, ⟨0, 0, rfl, rfl, Nat.zero_le _, rfl, rfl, Nat.le_refl 0, fun j _ hj => by omega⟩, C, 0, e1, e2, e3, rfl, Nat.zero_le _, ?_, yc_ok_y hy24 e7, ?_⟩
      · rw [es_Mc_y hy24]
        exact xc_ok_same e3 e6 hx
      · rcases b with b | b | b
        · obtain ⟨f1, f2, view, how, g1, g2, g3, g4, g5, g6, g7, g8, g9, g10, _⟩ := b
          exact Or.inl ⟨f1, f2, view, how, g1, g2, g3, g4, g5, g6, g7, g8, g9, g10, ew_inv_new rfl rfl rfl⟩
        · obtain ⟨f1, f2, N, eq, once, g1, g2, g3, g4, g5, g6, g7, g8, g9, _⟩ := b
          exact Or.inr (Or.inl ⟨f1, f2, N, eq, once, g1, g2, g3, g4, g5, g6, g7, g8, g9, xp_inv_new rfl⟩)
        · obtain ⟨f1, f2, n, m, g1, g2, g3, g4, g5, g6, g7, g8, _⟩ := b
          exact Or.inr (Or.inr ⟨f1, f2, n, m, g1, g2, g3, g4, g5, g6, g7, g8, xj_inv_new rfl rfl rfl rfl⟩)
end
