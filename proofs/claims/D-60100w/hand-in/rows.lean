section
/-! THE PURE PART: orders of n ≤ 7 numbers as words in base 8, and what the two classes compute on them, as functions of numbers -/
/-- factorials up to 7 -/
def pf_fac (k : Nat) : Nat := match k with
  | 0 => 1 | 1 => 1 | 2 => 2 | 3 => 6 | 4 => 24 | 5 => 120 | 6 => 720 | _ => 5040
/-- the digit at place k of a word in base 8 -/
def pf_dg (w k : Nat) : Nat := w / 2 ^ (3 * k) % 8
/-- how many zeros stand lowest, up to 7 -/
def pf_tz (v : Nat) : Nat := if v % 2 = 1 then 0 else if v / 2 % 2 = 1 then 1 else if v / 4 % 2 = 1 then 2 else if v / 8 % 2 = 1 then 3 else if v / 16 % 2 = 1 then 4 else if v / 32 % 2 = 1 then 5 else if v / 64 % 2 = 1 then 6 else 32
/-- how many ones, of seven places -/
def pf_pc (v : Nat) : Nat := v % 2 + v / 2 % 2 + v / 4 % 2 + v / 8 % 2 + v / 16 % 2 + v / 32 % 2 + v / 64 % 2
/-- the lowest one taken away j times -/
def pf_clr : Nat → Nat → Nat
  | 0, b => b
  | j + 1, b => pf_clr j (b &&& (b - 1))
/-- Packed.of: the digit, the number, the step; a state is (left, rest, row) -/
def pf_od (n k : Nat) (st : Nat × Nat × Nat) : Nat := st.2.1 / pf_fac (n - 1 - k)
def pf_on (n k : Nat) (st : Nat × Nat × Nat) : Nat := pf_tz (pf_clr (pf_od n k st) st.1)
def pf_os (n k : Nat) (st : Nat × Nat × Nat) : Nat × Nat × Nat := (st.1 &&& (127 ^^^ 2 ^ pf_on n k st), st.2.1 % pf_fac (n - 1 - k), st.2.2 ||| pf_on n k st * 2 ^ (3 * k))
def pf_ot (n r : Nat) : Nat → Nat × Nat × Nat
  | 0 => (2 ^ n - 1, r, 0)
  | k + 1 => pf_os n k (pf_ot n r k)
/-- the word of a rank -/
def pf_un (n r : Nat) : Nat := (pf_ot n r n).2.2
/-- Packed.rank: a state is (left, rank) -/
def pf_rt (n w : Nat) : Nat → Nat × Nat
  | 0 => (2 ^ n - 1, 0)
  | k + 1 => ((pf_rt n w k).1 &&& (127 ^^^ 2 ^ pf_dg w k), (pf_rt n w k).2 + pf_pc ((pf_rt n w k).1 &&& (2 ^ pf_dg w k - 1)) * pf_fac (n - 1 - k))
def pf_rk (n w : Nat) : Nat := (pf_rt n w n).2
/-- all of 2 ^ d numbers from b on -/
def pf_all (f : Nat → Bool) : Nat → Nat → Bool
  | 0, b => f b
  | d + 1, b => pf_all f d b && pf_all f d (b + 2 ^ d)
theorem pf_all_ok {f : Nat → Bool} : ∀ (d b : Nat), pf_all f d b = true → ∀ x, b ≤ x → x < b + 2 ^ d → f x = true
  | 0, b, h, x, h1, h2 => by
    rw [show x = b by omega]; exact h
  | d + 1, b, h, x, h1, h2 => by
    rw [pf_all, Bool.and_eq_true] at h
    rw [Nat.pow_succ] at h2
    by_cases hx : x < b + 2 ^ d
    · exact pf_all_ok d b h.1 x h1 hx
    · exact pf_all_ok d (b + 2 ^ d) h.2 x (by omega) (by omega)
/-- all below a small number -/
def pf_upto (f : Nat → Bool) : Nat → Bool
  | 0 => true
  | n + 1 => pf_upto f n && f n
theorem pf_upto_ok {f : Nat → Bool} : ∀ (n : Nat), pf_upto f n = true → ∀ x, x < n → f x = true
  | 0, _, x, hx => absurd hx (Nat.not_lt_zero x)
  | n + 1, h, x, hx => by
    rw [pf_upto, Bool.and_eq_true] at h
    by_cases e : x < n
    · exact pf_upto_ok n h.1 x e
    · rw [show x = n by omega]; exact h.2
/-- Packed.ring: the marks, and whether the fuel was enough -/
def pf_rg (w : Nat) : Nat → Nat → Nat → Nat × Bool
  | 0, ma, _ => (ma, false)
  | f + 1, ma, k => if ma / 2 ^ k % 2 = 0 then pf_rg w f (ma ||| 2 ^ k) (pf_dg w k) else (ma, true)
/-- RankDesk.exchanges: a state is (marks, rings) -/
def pf_et (w : Nat) : Nat → Nat × Nat
  | 0 => (0, 0)
  | k + 1 => if (pf_et w k).1 / 2 ^ k % 2 = 1 then pf_et w k else ((pf_et w k).1 ||| (pf_rg w 8 0 k).1, (pf_et w k).2 + 1)
/-- RankDesk.turns: a state is (marks, all) -/
def pf_ln (ma wi : Nat) : Nat := pf_pc wi - pf_pc ma
def pf_tt (w : Nat) : Nat → Nat × Nat
  | 0 => (0, 1)
  | k + 1 => if (pf_tt w k).1 / 2 ^ k % 2 = 1 then pf_tt w k else
    ((pf_tt w k).1 ||| (pf_rg w 8 0 k).1, (pf_tt w k).2 / Nat.gcd (pf_tt w k).2 (pf_ln (pf_tt w k).1 ((pf_tt w k).1 ||| (pf_rg w 8 0 k).1)) * pf_ln (pf_tt w k).1 ((pf_tt w k).1 ||| (pf_rg w 8 0 k).1))
/-- RankDesk.longest: the place of a number among the ends; a state is (ends, many) -/
def pf_bs (E : Nat → Nat) (x : Nat) : Nat → Nat → Nat → Nat
  | 0, lo, _ => lo
  | f + 1, lo, hi => if lo < hi then (if E ((lo + hi) / 2) < x then pf_bs E x f ((lo + hi) / 2 + 1) hi else pf_bs E x f lo ((lo + hi) / 2)) else lo
def pf_lt (w : Nat) : Nat → (Nat → Nat) × Nat
  | 0 => (fun _ => 0, 0)
  | k + 1 => (va_up (pf_lt w k).1 (pf_bs (pf_lt w k).1 (pf_dg w k) 8 0 (pf_lt w k).2) (pf_dg w k), if pf_bs (pf_lt w k).1 (pf_dg w k) 8 0 (pf_lt w k).2 = (pf_lt w k).2 then (pf_lt w k).2 + 1 else (pf_lt w k).2)
/-- RankDesk.inversions -/
def pf_iv : Nat → Nat → Nat → Nat
  | 0, s, _ => s
  | j + 1, s, rest => pf_iv j (s + rest / pf_fac j) (rest % pf_fac j)
/-- a word out of numbers, the highest place first -/
def pf_pk (q : Nat → Nat) : Nat → Nat → Nat
  | 0, a => a
  | j + 1, a => pf_pk q j (8 * a + q j)
/-- RankDeskModel.inversions -/
def pf_ij (P : Nat → Nat) (i : Nat) : Nat → Nat
  | 0 => 0
  | j + 1 => if P i < P j then pf_ij P i j + 1 else pf_ij P i j
def pf_io (P : Nat → Nat) : Nat → Nat
  | 0 => 0
  | i + 1 => pf_io P i + pf_ij P i i
/-- RankDeskModel.exchanges -/
def pf_ew (P : Nat → Nat) (i : Nat) : Nat → Nat → Bool → Bool × Bool
  | 0, _, b => (b, false)
  | f + 1, x, b => if x = i then (b, true) else pf_ew P i f (P x) (b && Nat.blt i x)
def pf_eo (P : Nat → Nat) : Nat → Nat
  | 0 => 0
  | i + 1 => if (pf_ew P i 8 (P i) true).1 = true then pf_eo P i else pf_eo P i + 1
/-- RankDeskModel.turns -/
def pf_tw (n : Nat) (P : Nat → Nat) : Nat → (Nat → Nat) → Nat → Nat × Bool
  | 0, _, c => (c, false)
  | f + 1, q, c => if pf_upto (fun i => Nat.beq (q i) i) n = true then (c, true) else pf_tw n P f (fun i => P (q i)) (c + 1)
/-- RankDeskModel.next -/
def pf_fi (P : Nat → Nat) : Nat → Nat
  | 0 => 0
  | j + 1 => if P (j + 1) < P j then pf_fi P j else j + 1
def pf_fj (P : Nat → Nat) (v : Nat) : Nat → Nat
  | 0 => 0
  | k + 1 => if P (k + 1) < v then pf_fj P v k else k + 1
def pf_sw (P : Nat → Nat) (a b : Nat) : Nat → Nat := va_up (va_up P a (P b)) b (P a)
def pf_rv : Nat → (Nat → Nat) → Nat → Nat → Nat → Nat
  | 0, P, _, _ => P
  | f + 1, P, a, b => if a < b then pf_rv f (pf_sw P a b) (a + 1) (b - 1) else P
def pf_nx (n : Nat) (P : Nat → Nat) : (Nat → Nat) × Nat :=
  if pf_fi P (n - 1) = 0 then (fun k => k, 0) else (pf_rv 8 (pf_sw P (pf_fi P (n - 1) - 1) (pf_fj P (P (pf_fi P (n - 1) - 1)) (n - 1))) (pf_fi P (n - 1)) (n - 1), 1)
/-- RankDeskModel.longest: of one choice s the state (last + 1, count, up); the best of the first s choices -/
def pf_mi (P : Nat → Nat) (s : Nat) : Nat → Nat × Nat × Bool
  | 0 => (0, 0, true)
  | i + 1 => if s / 2 ^ i % 2 = 0 then pf_mi P s i else (P i + 1, (pf_mi P s i).2.1 + 1, (pf_mi P s i).2.2 && Nat.ble (pf_mi P s i).1 (P i))
def pf_mo (n : Nat) (P : Nat → Nat) : Nat → Nat
  | 0 => 0
  | s + 1 => if (pf_mi P s n).2.2 = true ∧ pf_mo n P s < (pf_mi P s n).2.1 then (pf_mi P s n).2.1 else pf_mo n P s
/-- the same by choosing at each place -/
def pf_tr (P : Nat → Nat) (n : Nat) : Nat → Nat → Nat → Nat
  | 0, _, c => c
  | m + 1, l, c => Nat.max (pf_tr P n m l c) (if l ≤ P (n - (m + 1)) then pf_tr P n m (P (n - (m + 1)) + 1) (c + 1) else 0)
/-- all words of n different numbers below n, the highest place first -/
def pf_df (f : Nat → Bool) (n : Nat) : Nat → Nat → Bool
  | 0, a => f a
  | k + 1, a => pf_upto (fun d => !(pf_upto (fun j => !(Nat.beq (pf_dg a j) d)) (n - 1 - k)) || pf_df f n k (a * 8 + d)) n
/-! what is checked of each rank -/
def pf_k1 (n r : Nat) : Bool := pf_upto (fun k => Nat.blt (pf_on n k (pf_ot n r k)) n) n && Nat.blt (pf_un n r) (2 ^ (3 * n)) && Nat.beq (pf_rk n (pf_un n r)) r
def pf_k2 (n r : Nat) : Bool := pf_upto (fun k => Nat.blt (pf_dg (pf_un n r) k) n && pf_upto (fun j => !(Nat.beq (pf_dg (pf_un n r) j) (pf_dg (pf_un n r) k))) k) n && Nat.beq (pf_iv n 0 r) (pf_io (pf_dg (pf_un n r)) n)
def pf_k4 (n r : Nat) : Bool := if Nat.blt (r + 1) (pf_fac n) = true then Nat.beq (pf_nx n (pf_dg (pf_un n r))).2 1 && pf_upto (fun k => Nat.beq ((pf_nx n (pf_dg (pf_un n r))).1 k) (pf_dg (pf_un n (r + 1)) k)) n
  else Nat.beq (pf_nx n (pf_dg (pf_un n r))).2 0 && pf_upto (fun k => Nat.beq ((pf_nx n (pf_dg (pf_un n r))).1 k) (pf_dg (pf_un n 0) k)) n
def pf_k6 (n r : Nat) : Bool := pf_upto (fun k => (pf_rg (pf_un n r) 8 0 k).2 && Nat.blt (pf_rg (pf_un n r) 8 0 k).1 128 && (pf_ew (pf_dg (pf_un n r)) k 8 (pf_dg (pf_un n r) k) true).2) n && Nat.beq (pf_eo (pf_dg (pf_un n r)) n) (n - (pf_et (pf_un n r) n).2)
/-- one place of turns -/
def pf_tk (w k : Nat) : Bool := Nat.blt 0 (pf_tt w k).2 && Nat.blt (pf_tt w k).2 1000 && Nat.blt (pf_tt w k).1 128 && (Nat.beq ((pf_tt w k).1 / 2 ^ k % 2) 1 || (Nat.ble (pf_pc (pf_tt w k).1) (pf_pc ((pf_tt w k).1 ||| (pf_rg w 8 0 k).1)) && Nat.blt 0 (pf_ln (pf_tt w k).1 ((pf_tt w k).1 ||| (pf_rg w 8 0 k).1)) && Nat.blt (pf_ln (pf_tt w k).1 ((pf_tt w k).1 ||| (pf_rg w 8 0 k).1)) 8))
def pf_k7 (n r : Nat) : Bool := pf_upto (pf_tk (pf_un n r)) n && (pf_tw n (pf_dg (pf_un n r)) 13 (pf_dg (pf_un n r)) 1).2 && Nat.beq (pf_tw n (pf_dg (pf_un n r)) 13 (pf_dg (pf_un n r)) 1).1 (pf_tt (pf_un n r) n).2
def pf_k8 (n r : Nat) : Bool := Nat.beq (pf_tr (pf_dg (pf_un n r)) n n 0 0) (pf_lt (pf_un n r) n).2
def pf_k3 (n w : Nat) : Bool := Nat.blt (pf_rk n w) (pf_fac n) && Nat.beq (pf_un n (pf_rk n w)) w
/-- a check of the ranks that there are -/
def pf_g (K : Nat → Nat → Bool) (n r : Nat) : Bool := !(Nat.blt r (pf_fac n)) || K n r
theorem pf_gok {K : Nat → Nat → Bool} {n r : Nat} (h : pf_g K n r = true) (hr : r < pf_fac n) : K n r = true := by
  rw [pf_g, show Nat.blt r (pf_fac n) = true from Nat.ble_eq_true_of_le hr] at h
  exact h
/-- the checks of all n, put together -/
theorem pf_gall {K : Nat → Nat → Bool} (h1 : pf_all (pf_g K 1) 0 0 = true) (h2 : pf_all (pf_g K 2) 1 0 = true) (h3 : pf_all (pf_g K 3) 3 0 = true) (h4 : pf_all (pf_g K 4) 5 0 = true) (h5 : pf_all (pf_g K 5) 7 0 = true) (h6 : pf_all (pf_g K 6) 10 0 = true)
    (a : pf_all (pf_g K 7) 10 0 = true) (b : pf_all (pf_g K 7) 10 1024 = true) (c : pf_all (pf_g K 7) 10 2048 = true) (d : pf_all (pf_g K 7) 10 3072 = true) (e : pf_all (pf_g K 7) 10 4096 = true) {n r : Nat} (hn : 1 ≤ n) (hn7 : n ≤ 7) (hr : r < pf_fac n) : K n r = true := by
  refine pf_gok ?_ hr
  rcases (show n = 1 ∨ n = 2 ∨ n = 3 ∨ n = 4 ∨ n = 5 ∨ n = 6 ∨ n = 7 by omega) with rfl | rfl | rfl | rfl | rfl | rfl | rfl <;> simp only [pf_fac] at hr
  · exact pf_all_ok _ _ h1 r (by omega) (by omega)
  · exact pf_all_ok _ _ h2 r (by omega) (by omega)
  · exact pf_all_ok _ _ h3 r (by omega) (by omega)
  · exact pf_all_ok _ _ h4 r (by omega) (by omega)
  · exact pf_all_ok _ _ h5 r (by omega) (by omega)
  · exact pf_all_ok _ _ h6 r (by omega) (by omega)
  · rcases (show r < 1024 ∨ (1024 ≤ r ∧ r < 2048) ∨ (2048 ≤ r ∧ r < 3072) ∨ (3072 ≤ r ∧ r < 4096) ∨ (4096 ≤ r ∧ r < 5120) by omega) with q | q | q | q | q
    · exact pf_all_ok _ _ a r (by omega) (by omega)
    · exact pf_all_ok _ _ b r (by omega) (by omega)
    · exact pf_all_ok _ _ c r (by omega) (by omega)
    · exact pf_all_ok _ _ d r (by omega) (by omega)
    · exact pf_all_ok _ _ e r (by omega) (by omega)
end
section
/-! the checks of the words, by the kernel: making and rank; numbers and inversions; the next one -/
theorem pg_c1_1 : pf_all (pf_g pf_k1 1) 0 0 = true := by decide +kernel
theorem pg_c1_2 : pf_all (pf_g pf_k1 2) 1 0 = true := by decide +kernel
theorem pg_c1_3 : pf_all (pf_g pf_k1 3) 3 0 = true := by decide +kernel
theorem pg_c1_4 : pf_all (pf_g pf_k1 4) 5 0 = true := by decide +kernel
theorem pg_c1_5 : pf_all (pf_g pf_k1 5) 7 0 = true := by decide +kernel
theorem pg_c1_6 : pf_all (pf_g pf_k1 6) 10 0 = true := by decide +kernel
theorem pg_c1_7a : pf_all (pf_g pf_k1 7) 10 0 = true := by decide +kernel
theorem pg_c1_7b : pf_all (pf_g pf_k1 7) 10 1024 = true := by decide +kernel
theorem pg_c1_7c : pf_all (pf_g pf_k1 7) 10 2048 = true := by decide +kernel
theorem pg_c1_7d : pf_all (pf_g pf_k1 7) 10 3072 = true := by decide +kernel
theorem pg_c1_7e : pf_all (pf_g pf_k1 7) 10 4096 = true := by decide +kernel
theorem pg_c1 {n r : Nat} (hn : 1 ≤ n) (hn7 : n ≤ 7) (hr : r < pf_fac n) : pf_k1 n r = true := pf_gall pg_c1_1 pg_c1_2 pg_c1_3 pg_c1_4 pg_c1_5 pg_c1_6 pg_c1_7a pg_c1_7b pg_c1_7c pg_c1_7d pg_c1_7e hn hn7 hr
theorem pg_c2_1 : pf_all (pf_g pf_k2 1) 0 0 = true := by decide +kernel
theorem pg_c2_2 : pf_all (pf_g pf_k2 2) 1 0 = true := by decide +kernel
theorem pg_c2_3 : pf_all (pf_g pf_k2 3) 3 0 = true := by decide +kernel
theorem pg_c2_4 : pf_all (pf_g pf_k2 4) 5 0 = true := by decide +kernel
theorem pg_c2_5 : pf_all (pf_g pf_k2 5) 7 0 = true := by decide +kernel
theorem pg_c2_6 : pf_all (pf_g pf_k2 6) 10 0 = true := by decide +kernel
theorem pg_c2_7a : pf_all (pf_g pf_k2 7) 10 0 = true := by decide +kernel
theorem pg_c2_7b : pf_all (pf_g pf_k2 7) 10 1024 = true := by decide +kernel
theorem pg_c2_7c : pf_all (pf_g pf_k2 7) 10 2048 = true := by decide +kernel
theorem pg_c2_7d : pf_all (pf_g pf_k2 7) 10 3072 = true := by decide +kernel
theorem pg_c2_7e : pf_all (pf_g pf_k2 7) 10 4096 = true := by decide +kernel
theorem pg_c2 {n r : Nat} (hn : 1 ≤ n) (hn7 : n ≤ 7) (hr : r < pf_fac n) : pf_k2 n r = true := pf_gall pg_c2_1 pg_c2_2 pg_c2_3 pg_c2_4 pg_c2_5 pg_c2_6 pg_c2_7a pg_c2_7b pg_c2_7c pg_c2_7d pg_c2_7e hn hn7 hr
theorem pg_c4_1 : pf_all (pf_g pf_k4 1) 0 0 = true := by decide +kernel
theorem pg_c4_2 : pf_all (pf_g pf_k4 2) 1 0 = true := by decide +kernel
theorem pg_c4_3 : pf_all (pf_g pf_k4 3) 3 0 = true := by decide +kernel
theorem pg_c4_4 : pf_all (pf_g pf_k4 4) 5 0 = true := by decide +kernel
theorem pg_c4_5 : pf_all (pf_g pf_k4 5) 7 0 = true := by decide +kernel
theorem pg_c4_6 : pf_all (pf_g pf_k4 6) 10 0 = true := by decide +kernel
theorem pg_c4_7a : pf_all (pf_g pf_k4 7) 10 0 = true := by decide +kernel
theorem pg_c4_7b : pf_all (pf_g pf_k4 7) 10 1024 = true := by decide +kernel
theorem pg_c4_7c : pf_all (pf_g pf_k4 7) 10 2048 = true := by decide +kernel
theorem pg_c4_7d : pf_all (pf_g pf_k4 7) 10 3072 = true := by decide +kernel
theorem pg_c4_7e : pf_all (pf_g pf_k4 7) 10 4096 = true := by decide +kernel
theorem pg_c4 {n r : Nat} (hn : 1 ≤ n) (hn7 : n ≤ 7) (hr : r < pf_fac n) : pf_k4 n r = true := pf_gall pg_c4_1 pg_c4_2 pg_c4_3 pg_c4_4 pg_c4_5 pg_c4_6 pg_c4_7a pg_c4_7b pg_c4_7c pg_c4_7d pg_c4_7e hn hn7 hr
end
section
/-! the checks of exchanges, turns, longest, by the kernel -/
theorem pg_c6_1 : pf_all (pf_g pf_k6 1) 0 0 = true := by decide +kernel
theorem pg_c6_2 : pf_all (pf_g pf_k6 2) 1 0 = true := by decide +kernel
theorem pg_c6_3 : pf_all (pf_g pf_k6 3) 3 0 = true := by decide +kernel
theorem pg_c6_4 : pf_all (pf_g pf_k6 4) 5 0 = true := by decide +kernel
theorem pg_c6_5 : pf_all (pf_g pf_k6 5) 7 0 = true := by decide +kernel
theorem pg_c6_6 : pf_all (pf_g pf_k6 6) 10 0 = true := by decide +kernel
theorem pg_c6_7a : pf_all (pf_g pf_k6 7) 10 0 = true := by decide +kernel
theorem pg_c6_7b : pf_all (pf_g pf_k6 7) 10 1024 = true := by decide +kernel
theorem pg_c6_7c : pf_all (pf_g pf_k6 7) 10 2048 = true := by decide +kernel
theorem pg_c6_7d : pf_all (pf_g pf_k6 7) 10 3072 = true := by decide +kernel
theorem pg_c6_7e : pf_all (pf_g pf_k6 7) 10 4096 = true := by decide +kernel
theorem pg_c6 {n r : Nat} (hn : 1 ≤ n) (hn7 : n ≤ 7) (hr : r < pf_fac n) : pf_k6 n r = true := pf_gall pg_c6_1 pg_c6_2 pg_c6_3 pg_c6_4 pg_c6_5 pg_c6_6 pg_c6_7a pg_c6_7b pg_c6_7c pg_c6_7d pg_c6_7e hn hn7 hr
theorem pg_c7_1 : pf_all (pf_g pf_k7 1) 0 0 = true := by decide +kernel
theorem pg_c7_2 : pf_all (pf_g pf_k7 2) 1 0 = true := by decide +kernel
theorem pg_c7_3 : pf_all (pf_g pf_k7 3) 3 0 = true := by decide +kernel
theorem pg_c7_4 : pf_all (pf_g pf_k7 4) 5 0 = true := by decide +kernel
theorem pg_c7_5 : pf_all (pf_g pf_k7 5) 7 0 = true := by decide +kernel
theorem pg_c7_6 : pf_all (pf_g pf_k7 6) 10 0 = true := by decide +kernel
theorem pg_c7_7a : pf_all (pf_g pf_k7 7) 10 0 = true := by decide +kernel
theorem pg_c7_7b : pf_all (pf_g pf_k7 7) 10 1024 = true := by decide +kernel
theorem pg_c7_7c : pf_all (pf_g pf_k7 7) 10 2048 = true := by decide +kernel
theorem pg_c7_7d : pf_all (pf_g pf_k7 7) 10 3072 = true := by decide +kernel
theorem pg_c7_7e : pf_all (pf_g pf_k7 7) 10 4096 = true := by decide +kernel
theorem pg_c7 {n r : Nat} (hn : 1 ≤ n) (hn7 : n ≤ 7) (hr : r < pf_fac n) : pf_k7 n r = true := pf_gall pg_c7_1 pg_c7_2 pg_c7_3 pg_c7_4 pg_c7_5 pg_c7_6 pg_c7_7a pg_c7_7b pg_c7_7c pg_c7_7d pg_c7_7e hn hn7 hr
theorem pg_c8_1 : pf_all (pf_g pf_k8 1) 0 0 = true := by decide +kernel
theorem pg_c8_2 : pf_all (pf_g pf_k8 2) 1 0 = true := by decide +kernel
theorem pg_c8_3 : pf_all (pf_g pf_k8 3) 3 0 = true := by decide +kernel
theorem pg_c8_4 : pf_all (pf_g pf_k8 4) 5 0 = true := by decide +kernel
theorem pg_c8_5 : pf_all (pf_g pf_k8 5) 7 0 = true := by decide +kernel
theorem pg_c8_6 : pf_all (pf_g pf_k8 6) 10 0 = true := by decide +kernel
theorem pg_c8_7a : pf_all (pf_g pf_k8 7) 10 0 = true := by decide +kernel
theorem pg_c8_7b : pf_all (pf_g pf_k8 7) 10 1024 = true := by decide +kernel
theorem pg_c8_7c : pf_all (pf_g pf_k8 7) 10 2048 = true := by decide +kernel
theorem pg_c8_7d : pf_all (pf_g pf_k8 7) 10 3072 = true := by decide +kernel
theorem pg_c8_7e : pf_all (pf_g pf_k8 7) 10 4096 = true := by decide +kernel
theorem pg_c8 {n r : Nat} (hn : 1 ≤ n) (hn7 : n ≤ 7) (hr : r < pf_fac n) : pf_k8 n r = true := pf_gall pg_c8_1 pg_c8_2 pg_c8_3 pg_c8_4 pg_c8_5 pg_c8_6 pg_c8_7a pg_c8_7b pg_c8_7c pg_c8_7d pg_c8_7e hn hn7 hr
theorem pg_d1 : pf_df (pf_k3 1) 1 1 0 = true := by decide +kernel
theorem pg_d2 : pf_df (pf_k3 2) 2 2 0 = true := by decide +kernel
theorem pg_d3 : pf_df (pf_k3 3) 3 3 0 = true := by decide +kernel
theorem pg_d4 : pf_df (pf_k3 4) 4 4 0 = true := by decide +kernel
theorem pg_d5 : pf_df (pf_k3 5) 5 5 0 = true := by decide +kernel
theorem pg_d6 : pf_df (pf_k3 6) 6 6 0 = true := by decide +kernel
theorem pf_df_s {f : Nat → Bool} {n k a : Nat} (h : ∀ d, d < n → pf_df f n k (a * 8 + d) = true) : pf_df f n (k + 1) a = true := by
  have key : ∀ (g : Nat → Bool) (m : Nat), (∀ d, d < m → g d = true) → pf_upto g m = true := by
    intro g m
    induction m with
    | zero => intro _; rfl
    | succ m ih => intro hg; rw [pf_upto, ih (fun d hd => hg d (by omega)), hg m (by omega)]; rfl
  rw [pf_df]
  exact key _ n (fun d hd => by rw [h d hd, Bool.or_true])
theorem pg_d7_0 : pf_df (pf_k3 7) 7 6 (0 * 8 + 0) = true := by decide +kernel
theorem pg_d7_1 : pf_df (pf_k3 7) 7 6 (0 * 8 + 1) = true := by decide +kernel
theorem pg_d7_2 : pf_df (pf_k3 7) 7 6 (0 * 8 + 2) = true := by decide +kernel
theorem pg_d7_3 : pf_df (pf_k3 7) 7 6 (0 * 8 + 3) = true := by decide +kernel
theorem pg_d7_4 : pf_df (pf_k3 7) 7 6 (0 * 8 + 4) = true := by decide +kernel
theorem pg_d7_5 : pf_df (pf_k3 7) 7 6 (0 * 8 + 5) = true := by decide +kernel
theorem pg_d7_6 : pf_df (pf_k3 7) 7 6 (0 * 8 + 6) = true := by decide +kernel
theorem pg_d7 : pf_df (pf_k3 7) 7 7 0 = true := pf_df_s (fun d hd => by
  rcases (show d = 0 ∨ d = 1 ∨ d = 2 ∨ d = 3 ∨ d = 4 ∨ d = 5 ∨ d = 6 by omega) with rfl | rfl | rfl | rfl | rfl | rfl | rfl
  · exact pg_d7_0
  · exact pg_d7_1
  · exact pg_d7_2
  · exact pg_d7_3
  · exact pg_d7_4
  · exact pg_d7_5
  · exact pg_d7_6)
end
section
-- ===== PART A: goes FIRST, ahead of the names: the tables' words, and 'selects' of the private methods out of them =====
/-- a private method of a class that the tables say can be made, by its rows of tables_1 -/
def lw_okq (q : MethodName × Nat) : Prop := (q.1.cls ≠ "java/lang/invoke/MethodHandle" ∧ q.1.cls ≠ "java/lang/invoke/VarHandle") ∧ Cond.instantiable q.1.cls q.2 ∈ tables_1 ∧ Cond.privateMethod q.1 ∈ tables_1 ∧ Cond.instanceMethod q.1 ∈ tables_1
theorem lw_p0 : lw_okq (⟨"RankDesk", "place", "(I)I"⟩, 4) := ⟨⟨by decide +kernel, by decide +kernel⟩, List.mem_of_getElem? (i := 6) (by decide +kernel), List.mem_of_getElem? (i := 37) (by decide +kernel), List.mem_of_getElem? (i := 38) (by decide +kernel)⟩
theorem lw_p1 : lw_okq (⟨"RankDesk", "order", "()LRankDesk$Packed;"⟩, 4) := ⟨⟨by decide +kernel, by decide +kernel⟩, List.mem_of_getElem? (i := 6) (by decide +kernel), List.mem_of_getElem? (i := 41) (by decide +kernel), List.mem_of_getElem? (i := 42) (by decide +kernel)⟩
theorem lw_p2 : lw_okq (⟨"RankDeskModel", "next", "([I)Z"⟩, 4) := ⟨⟨by decide +kernel, by decide +kernel⟩, List.mem_of_getElem? (i := 144) (by decide +kernel), List.mem_of_getElem? (i := 172) (by decide +kernel), List.mem_of_getElem? (i := 173) (by decide +kernel)⟩
theorem lw_p3 : lw_okq (⟨"RankDeskModel", "orders", "()I"⟩, 4) := ⟨⟨by decide +kernel, by decide +kernel⟩, List.mem_of_getElem? (i := 144) (by decide +kernel), List.mem_of_getElem? (i := 180) (by decide +kernel), List.mem_of_getElem? (i := 181) (by decide +kernel)⟩
def lw_privs_1 : List (MethodName × Nat) := [(⟨"RankDesk", "place", "(I)I"⟩, 4), (⟨"RankDesk", "order", "()LRankDesk$Packed;"⟩, 4), (⟨"RankDeskModel", "next", "([I)Z"⟩, 4), (⟨"RankDeskModel", "orders", "()I"⟩, 4)]
theorem lw_r1 : ∀ q ∈ lw_privs_1, lw_okq q := List.forall_mem_cons.mpr ⟨lw_p0, List.forall_mem_cons.mpr ⟨lw_p1, List.forall_mem_cons.mpr ⟨lw_p2, List.forall_mem_cons.mpr ⟨lw_p3, fun _ h => absurd h List.not_mem_nil⟩⟩⟩⟩
def lw_privs : List (MethodName × Nat) := lw_privs_1
def lw_tbl : List Cond := k2_sels lw_privs ++ tables_1
theorem lw_privs_ok : ∀ q ∈ lw_privs, lw_okq q := lw_r1

/-- the words that go down to every callee -/
def lw_g : List Cond := lw_tbl.filter goodWord
/-- what a call needs to know of a method -/
def md_B (y : MethodName) (bytes : ByteArray) (maxL : Nat) (ret : Option FieldType) (n : Nat) : Prop := Cond.code y bytes maxL ret ∈ lw_g ∧ Cond.initialized y.cls ∈ lw_g ∧ (y.cls ≠ "java/lang/invoke/MethodHandle" ∧ y.cls ≠ "java/lang/invoke/VarHandle" ∧ (parseMethodDescriptor y.desc).map (fun d => d.parameters.length) = some n)
-- names
abbrev b_X_init : ByteArray := prog_1_method_1_code
abbrev y_X_init : MethodName := ⟨"RankDesk", "<init>", "()V"⟩
abbrev cd_X_init : Cond := Cond.code y_X_init b_X_init 1 none
abbrev wz_X_init : List Cond := cd_X_init :: lw_g
abbrev b_X_size : ByteArray := prog_1_method_4_code
abbrev y_X_size : MethodName := ⟨"RankDesk", "size", "(I)V"⟩
abbrev cd_X_size : Cond := Cond.code y_X_size b_X_size 2 none
abbrev wz_X_size : List Cond := cd_X_size :: lw_g
abbrev b_X_swap : ByteArray := prog_1_method_5_code
abbrev y_X_swap : MethodName := ⟨"RankDesk", "swap", "(II)Z"⟩
abbrev cd_X_swap : Cond := Cond.code y_X_swap b_X_swap 5 (some .boolean)
abbrev wz_X_swap : List Cond := cd_X_swap :: lw_g
abbrev b_X_place : ByteArray := prog_1_method_3_code
abbrev y_X_place : MethodName := ⟨"RankDesk", "place", "(I)I"⟩
abbrev cd_X_place : Cond := Cond.code y_X_place b_X_place 2 (some .int)
abbrev wz_X_place : List Cond := cd_X_place :: lw_g
abbrev b_X_order : ByteArray := prog_1_method_2_code
abbrev y_X_order : MethodName := ⟨"RankDesk", "order", "()LRankDesk$Packed;"⟩
abbrev cd_X_order : Cond := Cond.code y_X_order b_X_order 1 (some (.object "RankDesk$Packed"))
abbrev wz_X_order : List Cond := cd_X_order :: lw_g
abbrev b_K_of : ByteArray := prog_2_method_3_code
abbrev y_K_of : MethodName := ⟨"RankDesk$Packed", "of", "(II[I)LRankDesk$Packed;"⟩
abbrev cd_K_of : Cond := Cond.code y_K_of b_K_of 10 (some (.object "RankDesk$Packed"))
abbrev wz_K_of : List Cond := cd_K_of :: lw_g
abbrev b_I_numberOfTrailingZeros : ByteArray := prog_5_method_48_code
abbrev y_I_numberOfTrailingZeros : MethodName := ⟨"java/lang/Integer", "numberOfTrailingZeros", "(I)I"⟩
abbrev cd_I_numberOfTrailingZeros : Cond := Cond.code y_I_numberOfTrailingZeros b_I_numberOfTrailingZeros 2 (some .int)
abbrev wz_I_numberOfTrailingZeros : List Cond := cd_I_numberOfTrailingZeros :: lw_g
abbrev b_K_init : ByteArray := prog_2_method_1_code
abbrev y_K_init : MethodName := ⟨"RankDesk$Packed", "<init>", "(II)V"⟩
abbrev cd_K_init : Cond := Cond.code y_K_init b_K_init 3 none
abbrev wz_K_init : List Cond := cd_K_init :: lw_g
abbrev b_K_exchanged : ByteArray := prog_2_method_5_code
abbrev y_K_exchanged : MethodName := ⟨"RankDesk$Packed", "exchanged", "(II)LRankDesk$Packed;"⟩
abbrev cd_K_exchanged : Cond := Cond.code y_K_exchanged b_K_exchanged 4 (some (.object "RankDesk$Packed"))
abbrev wz_K_exchanged : List Cond := cd_K_exchanged :: lw_g
abbrev b_K_at : ByteArray := prog_2_method_4_code
abbrev y_K_at : MethodName := ⟨"RankDesk$Packed", "at", "(I)I"⟩
abbrev cd_K_at : Cond := Cond.code y_K_at b_K_at 2 (some .int)
abbrev wz_K_at : List Cond := cd_K_at :: lw_g
abbrev b_K_rank : ByteArray := prog_2_method_7_code
abbrev y_K_rank : MethodName := ⟨"RankDesk$Packed", "rank", "([I)I"⟩
abbrev cd_K_rank : Cond := Cond.code y_K_rank b_K_rank 6 (some .int)
abbrev wz_K_rank : List Cond := cd_K_rank :: lw_g
abbrev b_I_bitCount : ByteArray := prog_5_method_49_code
abbrev y_I_bitCount : MethodName := ⟨"java/lang/Integer", "bitCount", "(I)I"⟩
abbrev cd_I_bitCount : Cond := Cond.code y_I_bitCount b_I_bitCount 1 (some .int)
abbrev wz_I_bitCount : List Cond := cd_I_bitCount :: lw_g
abbrev b_X_rank : ByteArray := prog_1_method_6_code
abbrev y_X_rank : MethodName := ⟨"RankDesk", "rank", "()I"⟩
abbrev cd_X_rank : Cond := Cond.code y_X_rank b_X_rank 1 (some .int)
abbrev wz_X_rank : List Cond := cd_X_rank :: lw_g
abbrev b_X_unrank : ByteArray := prog_1_method_7_code
abbrev y_X_unrank : MethodName := ⟨"RankDesk", "unrank", "(I)V"⟩
abbrev cd_X_unrank : Cond := Cond.code y_X_unrank b_X_unrank 2 none
abbrev wz_X_unrank : List Cond := cd_X_unrank :: lw_g
abbrev b_X_forward : ByteArray := prog_1_method_8_code
abbrev y_X_forward : MethodName := ⟨"RankDesk", "forward", "()Z"⟩
abbrev cd_X_forward : Cond := Cond.code y_X_forward b_X_forward 1 (some .boolean)
abbrev wz_X_forward : List Cond := cd_X_forward :: lw_g
abbrev b_X_at : ByteArray := prog_1_method_9_code
abbrev y_X_at : MethodName := ⟨"RankDesk", "at", "(I)I"⟩
abbrev cd_X_at : Cond := Cond.code y_X_at b_X_at 2 (some .int)
abbrev wz_X_at : List Cond := cd_X_at :: lw_g
abbrev b_X_inversions : ByteArray := prog_1_method_10_code
abbrev y_X_inversions : MethodName := ⟨"RankDesk", "inversions", "()I"⟩
abbrev cd_X_inversions : Cond := Cond.code y_X_inversions b_X_inversions 4 (some .int)
abbrev wz_X_inversions : List Cond := cd_X_inversions :: lw_g
abbrev b_X_exchanges : ByteArray := prog_1_method_11_code
abbrev y_X_exchanges : MethodName := ⟨"RankDesk", "exchanges", "()I"⟩
abbrev cd_X_exchanges : Cond := Cond.code y_X_exchanges b_X_exchanges 5 (some .int)
abbrev wz_X_exchanges : List Cond := cd_X_exchanges :: lw_g
abbrev b_K_ring : ByteArray := prog_2_method_8_code
abbrev y_K_ring : MethodName := ⟨"RankDesk$Packed", "ring", "(II)I"⟩
abbrev cd_K_ring : Cond := Cond.code y_K_ring b_K_ring 5 (some .int)
abbrev wz_K_ring : List Cond := cd_K_ring :: lw_g
abbrev b_X_turns : ByteArray := prog_1_method_13_code
abbrev y_X_turns : MethodName := ⟨"RankDesk", "turns", "()I"⟩
abbrev cd_X_turns : Cond := Cond.code y_X_turns b_X_turns 7 (some .int)
abbrev wz_X_turns : List Cond := cd_X_turns :: lw_g
abbrev b_X_divisor : ByteArray := prog_1_method_12_code
abbrev y_X_divisor : MethodName := ⟨"RankDesk", "divisor", "(II)I"⟩
abbrev cd_X_divisor : Cond := Cond.code y_X_divisor b_X_divisor 2 (some .int)
abbrev wz_X_divisor : List Cond := cd_X_divisor :: lw_g
abbrev b_X_longest : ByteArray := prog_1_method_14_code
abbrev y_X_longest : MethodName := ⟨"RankDesk", "longest", "()I"⟩
abbrev cd_X_longest : Cond := Cond.code y_X_longest b_X_longest 8 (some .int)
abbrev wz_X_longest : List Cond := cd_X_longest :: lw_g
abbrev b_X_powers : ByteArray := prog_1_method_15_code
abbrev y_X_powers : MethodName := ⟨"RankDesk", "powers", "(I)I"⟩
abbrev cd_X_powers : Cond := Cond.code y_X_powers b_X_powers 5 (some .int)
abbrev wz_X_powers : List Cond := cd_X_powers :: lw_g
abbrev b_K_first : ByteArray := prog_2_method_2_code
abbrev y_K_first : MethodName := ⟨"RankDesk$Packed", "first", "(I)LRankDesk$Packed;"⟩
abbrev cd_K_first : Cond := Cond.code y_K_first b_K_first 3 (some (.object "RankDesk$Packed"))
abbrev wz_K_first : List Cond := cd_K_first :: lw_g
abbrev b_K_then : ByteArray := prog_2_method_6_code
abbrev y_K_then : MethodName := ⟨"RankDesk$Packed", "then", "(LRankDesk$Packed;)LRankDesk$Packed;"⟩
abbrev cd_K_then : Cond := Cond.code y_K_then b_K_then 4 (some (.object "RankDesk$Packed"))
abbrev wz_K_then : List Cond := cd_K_then :: lw_g
abbrev b_K_packed : ByteArray := prog_2_method_9_code
abbrev y_K_packed : MethodName := ⟨"RankDesk$Packed", "packed", "()I"⟩
abbrev cd_K_packed : Cond := Cond.code y_K_packed b_K_packed 1 (some .int)
abbrev wz_K_packed : List Cond := cd_K_packed :: lw_g
abbrev b_M_size : ByteArray := prog_4_method_1_code
abbrev y_M_size : MethodName := ⟨"RankDeskModel", "size", "(I)V"⟩
abbrev cd_M_size : Cond := Cond.code y_M_size b_M_size 3 none
abbrev wz_M_size : List Cond := cd_M_size :: lw_g
abbrev b_M_init : ByteArray := prog_4_method_2_code
abbrev y_M_init : MethodName := ⟨"RankDeskModel", "<init>", "()V"⟩
abbrev cd_M_init : Cond := Cond.code y_M_init b_M_init 1 none
abbrev wz_M_init : List Cond := cd_M_init :: lw_g
abbrev b_M_swap : ByteArray := prog_4_method_4_code
abbrev y_M_swap : MethodName := ⟨"RankDeskModel", "swap", "(II)Z"⟩
abbrev cd_M_swap : Cond := Cond.code y_M_swap b_M_swap 6 (some .boolean)
abbrev wz_M_swap : List Cond := cd_M_swap :: lw_g
abbrev b_M_rank : ByteArray := prog_4_method_6_code
abbrev y_M_rank : MethodName := ⟨"RankDeskModel", "rank", "()I"⟩
abbrev cd_M_rank : Cond := Cond.code y_M_rank b_M_rank 4 (some .int)
abbrev wz_M_rank : List Cond := cd_M_rank :: lw_g
abbrev b_M_next : ByteArray := prog_4_method_5_code
abbrev y_M_next : MethodName := ⟨"RankDeskModel", "next", "([I)Z"⟩
abbrev cd_M_next : Cond := Cond.code y_M_next b_M_next 7 (some .boolean)
abbrev wz_M_next : List Cond := cd_M_next :: lw_g
abbrev b_M_unrank : ByteArray := prog_4_method_7_code
abbrev y_M_unrank : MethodName := ⟨"RankDeskModel", "unrank", "(I)V"⟩
abbrev cd_M_unrank : Cond := Cond.code y_M_unrank b_M_unrank 4 none
abbrev wz_M_unrank : List Cond := cd_M_unrank :: lw_g
abbrev b_M_orders : ByteArray := prog_4_method_3_code
abbrev y_M_orders : MethodName := ⟨"RankDeskModel", "orders", "()I"⟩
abbrev cd_M_orders : Cond := Cond.code y_M_orders b_M_orders 3 (some .int)
abbrev wz_M_orders : List Cond := cd_M_orders :: lw_g
abbrev b_M_forward : ByteArray := prog_4_method_8_code
abbrev y_M_forward : MethodName := ⟨"RankDeskModel", "forward", "()Z"⟩
abbrev cd_M_forward : Cond := Cond.code y_M_forward b_M_forward 1 (some .boolean)
abbrev wz_M_forward : List Cond := cd_M_forward :: lw_g
abbrev b_M_at : ByteArray := prog_4_method_9_code
abbrev y_M_at : MethodName := ⟨"RankDeskModel", "at", "(I)I"⟩
abbrev cd_M_at : Cond := Cond.code y_M_at b_M_at 2 (some .int)
abbrev wz_M_at : List Cond := cd_M_at :: lw_g
abbrev b_M_inversions : ByteArray := prog_4_method_10_code
abbrev y_M_inversions : MethodName := ⟨"RankDeskModel", "inversions", "()I"⟩
abbrev cd_M_inversions : Cond := Cond.code y_M_inversions b_M_inversions 4 (some .int)
abbrev wz_M_inversions : List Cond := cd_M_inversions :: lw_g
abbrev b_M_exchanges : ByteArray := prog_4_method_11_code
abbrev y_M_exchanges : MethodName := ⟨"RankDeskModel", "exchanges", "()I"⟩
abbrev cd_M_exchanges : Cond := Cond.code y_M_exchanges b_M_exchanges 5 (some .int)
abbrev wz_M_exchanges : List Cond := cd_M_exchanges :: lw_g
abbrev b_M_turns : ByteArray := prog_4_method_12_code
abbrev y_M_turns : MethodName := ⟨"RankDeskModel", "turns", "()I"⟩
abbrev cd_M_turns : Cond := Cond.code y_M_turns b_M_turns 4 (some .int)
abbrev wz_M_turns : List Cond := cd_M_turns :: lw_g
abbrev b_M_longest : ByteArray := prog_4_method_13_code
abbrev y_M_longest : MethodName := ⟨"RankDeskModel", "longest", "()I"⟩
abbrev cd_M_longest : Cond := Cond.code y_M_longest b_M_longest 7 (some .int)
abbrev wz_M_longest : List Cond := cd_M_longest :: lw_g
abbrev b_M_powers : ByteArray := prog_4_method_14_code
abbrev y_M_powers : MethodName := ⟨"RankDeskModel", "powers", "(I)I"⟩
abbrev cd_M_powers : Cond := Cond.code y_M_powers b_M_powers 5 (some .int)
abbrev wz_M_powers : List Cond := cd_M_powers :: lw_g
def F_X : u_T := fun k => match k with
  | 0 => ("RankDesk", "factorials", "[I", true)
  | 1 => ("RankDesk", "ends", "[I", true)
  | 2 => ("RankDesk", "n", "I", false)
  | _ => ("RankDesk", "rank", "I", false)
def ft_X : Nat → FieldType := fun k => match k with
  | 0 => .array .int
  | 1 => .array .int
  | 2 => .int
  | _ => .int
theorem fn_X : ∀ a, a < 4 → ∀ b, b < 4 → a ≠ b → (F_X a).2.1 ≠ (F_X b).2.1 := by decide +kernel
theorem fo_X : ∀ k, k < 4 → parseFieldDescriptor (F_X k).2.2.1 = some (ft_X k) := by decide +kernel
def F_K : u_T := fun k => match k with
  | 0 => ("RankDesk$Packed", "n", "I", true)
  | _ => ("RankDesk$Packed", "row", "I", true)
def ft_K : Nat → FieldType := fun k => match k with
  | 0 => .int
  | _ => .int
theorem fn_K : ∀ a, a < 2 → ∀ b, b < 2 → a ≠ b → (F_K a).2.1 ≠ (F_K b).2.1 := by decide +kernel
theorem fo_K : ∀ k, k < 2 → parseFieldDescriptor (F_K k).2.2.1 = some (ft_K k) := by decide +kernel
def F_M : u_T := fun k => match k with
  | 0 => ("RankDeskModel", "n", "I", false)
  | 1 => ("RankDeskModel", "p", "[I", true)
  | 2 => ("RankDeskModel", "q", "[I", true)
  | _ => ("RankDeskModel", "left", "[I", true)
def ft_M : Nat → FieldType := fun k => match k with
  | 0 => .int
  | 1 => .array .int
  | 2 => .array .int
  | _ => .array .int
theorem fn_M : ∀ a, a < 4 → ∀ b, b < 4 → a ≠ b → (F_M a).2.1 ≠ (F_M b).2.1 := by decide +kernel
theorem fo_M : ∀ k, k < 4 → parseFieldDescriptor (F_M k).2.2.1 = some (ft_M k) := by decide +kernel
abbrev classes : List vw_C := [("RankDesk", F_X, 4), ("RankDesk$Packed", F_K, 2), ("RankDeskModel", F_M, 4)]
theorem ts_X_place : Cond.selects "RankDesk" y_X_place y_X_place ∈ lw_g := List.mem_filter.mpr ⟨List.mem_of_getElem? (i := 0) rfl, rfl⟩
theorem ts_X_order : Cond.selects "RankDesk" y_X_order y_X_order ∈ lw_g := List.mem_filter.mpr ⟨List.mem_of_getElem? (i := 1) rfl, rfl⟩
theorem ts_M_next : Cond.selects "RankDeskModel" y_M_next y_M_next ∈ lw_g := List.mem_filter.mpr ⟨List.mem_of_getElem? (i := 2) rfl, rfl⟩
theorem ts_M_orders : Cond.selects "RankDeskModel" y_M_orders y_M_orders ∈ lw_g := List.mem_filter.mpr ⟨List.mem_of_getElem? (i := 3) rfl, rfl⟩
theorem tn_L : Cond.initialized "RankDeskLaw" ∈ lw_g := List.mem_filter.mpr ⟨List.mem_of_getElem? (i := 4) rfl, rfl⟩
theorem tn_X : Cond.initialized "RankDesk" ∈ lw_g := List.mem_filter.mpr ⟨List.mem_of_getElem? (i := 5) rfl, rfl⟩
theorem tn_M : Cond.initialized "RankDeskModel" ∈ lw_g := List.mem_filter.mpr ⟨List.mem_of_getElem? (i := 6) rfl, rfl⟩
theorem tn_K : Cond.initialized "RankDesk$Packed" ∈ lw_g := List.mem_filter.mpr ⟨List.mem_of_getElem? (i := 7) rfl, rfl⟩
theorem tn_I : Cond.initialized "java/lang/Integer" ∈ lw_g := List.mem_filter.mpr ⟨List.mem_of_getElem? (i := 8) rfl, rfl⟩
theorem tk_L_7 : Cond.classLink "RankDeskLaw" 7 "RankDesk" ∈ lw_g := List.mem_filter.mpr ⟨List.mem_of_getElem? (i := 9) rfl, rfl⟩
theorem ti_X : Cond.instantiable "RankDesk" 4 ∈ lw_g := List.mem_filter.mpr ⟨List.mem_of_getElem? (i := 10) rfl, rfl⟩
theorem tl_L_9 : Cond.methodLink "RankDeskLaw" 9 y_X_init ∈ lw_g := List.mem_filter.mpr ⟨List.mem_of_getElem? (i := 11) rfl, rfl⟩
theorem tm_X_init : Cond.instanceMethod y_X_init ∈ lw_g := List.mem_filter.mpr ⟨List.mem_of_getElem? (i := 12) rfl, rfl⟩
theorem tc_X_init : cd_X_init ∈ lw_g := List.mem_filter.mpr ⟨List.mem_of_getElem? (i := 13) rfl, rfl⟩
theorem tl_X_1 : Cond.methodLink "RankDesk" 1 objectInit ∈ lw_g := List.mem_filter.mpr ⟨List.mem_of_getElem? (i := 14) rfl, rfl⟩
theorem tm_O_init : Cond.instanceMethod objectInit ∈ lw_g := List.mem_filter.mpr ⟨List.mem_of_getElem? (i := 15) rfl, rfl⟩
theorem to_code : Cond.code objectInit ⟨#[0xb1]⟩ 1 none ∈ lw_g := List.mem_filter.mpr ⟨List.mem_of_getElem? (i := 16) rfl, rfl⟩
theorem tf_X_7 : Cond.fieldLink "RankDesk" 7 "RankDesk" "factorials" "[I" ∈ lw_g := List.mem_filter.mpr ⟨List.mem_of_getElem? (i := 17) rfl, rfl⟩
theorem tf_X_13 : Cond.fieldLink "RankDesk" 13 "RankDesk" "ends" "[I" ∈ lw_g := List.mem_filter.mpr ⟨List.mem_of_getElem? (i := 18) rfl, rfl⟩
theorem tf_X_16 : Cond.fieldLink "RankDesk" 16 "RankDesk" "n" "I" ∈ lw_g := List.mem_filter.mpr ⟨List.mem_of_getElem? (i := 19) rfl, rfl⟩
theorem tf_X_20 : Cond.fieldLink "RankDesk" 20 "RankDesk" "rank" "I" ∈ lw_g := List.mem_filter.mpr ⟨List.mem_of_getElem? (i := 20) rfl, rfl⟩
theorem ta_int : Cond.arrayClass Jvm.ClassFile.FieldType.int ∈ lw_g := List.mem_filter.mpr ⟨List.mem_of_getElem? (i := 30) rfl, rfl⟩
theorem tl_L_13 : Cond.methodLink "RankDeskLaw" 13 y_X_size ∈ lw_g := List.mem_filter.mpr ⟨List.mem_of_getElem? (i := 31) rfl, rfl⟩
theorem tm_X_size : Cond.instanceMethod y_X_size ∈ lw_g := List.mem_filter.mpr ⟨List.mem_of_getElem? (i := 32) rfl, rfl⟩
theorem ts_X_size : Cond.selects "RankDesk" y_X_size y_X_size ∈ lw_g := List.mem_filter.mpr ⟨List.mem_of_getElem? (i := 33) rfl, rfl⟩
theorem tc_X_size : cd_X_size ∈ lw_g := List.mem_filter.mpr ⟨List.mem_of_getElem? (i := 34) rfl, rfl⟩
theorem tv_X_29 : Cond.constant "RankDesk" 29 (2147483647 : Int32) ∈ lw_g := List.mem_filter.mpr ⟨List.mem_of_getElem? (i := 35) rfl, rfl⟩
theorem tl_L_18 : Cond.methodLink "RankDeskLaw" 18 y_X_swap ∈ lw_g := List.mem_filter.mpr ⟨List.mem_of_getElem? (i := 36) rfl, rfl⟩
theorem tm_X_swap : Cond.instanceMethod y_X_swap ∈ lw_g := List.mem_filter.mpr ⟨List.mem_of_getElem? (i := 37) rfl, rfl⟩
theorem ts_X_swap : Cond.selects "RankDesk" y_X_swap y_X_swap ∈ lw_g := List.mem_filter.mpr ⟨List.mem_of_getElem? (i := 38) rfl, rfl⟩
theorem tc_X_swap : cd_X_swap ∈ lw_g := List.mem_filter.mpr ⟨List.mem_of_getElem? (i := 39) rfl, rfl⟩
theorem tl_X_30 : Cond.methodLink "RankDesk" 30 y_X_place ∈ lw_g := List.mem_filter.mpr ⟨List.mem_of_getElem? (i := 40) rfl, rfl⟩
theorem tm_X_place : Cond.instanceMethod y_X_place ∈ lw_g := List.mem_filter.mpr ⟨List.mem_of_getElem? (i := 42) rfl, rfl⟩
theorem tc_X_place : cd_X_place ∈ lw_g := List.mem_filter.mpr ⟨List.mem_of_getElem? (i := 43) rfl, rfl⟩
theorem tl_X_34 : Cond.methodLink "RankDesk" 34 y_X_order ∈ lw_g := List.mem_filter.mpr ⟨List.mem_of_getElem? (i := 44) rfl, rfl⟩
theorem tm_X_order : Cond.instanceMethod y_X_order ∈ lw_g := List.mem_filter.mpr ⟨List.mem_of_getElem? (i := 46) rfl, rfl⟩
theorem tc_X_order : cd_X_order ∈ lw_g := List.mem_filter.mpr ⟨List.mem_of_getElem? (i := 47) rfl, rfl⟩
theorem tl_X_23 : Cond.methodLink "RankDesk" 23 y_K_of ∈ lw_g := List.mem_filter.mpr ⟨List.mem_of_getElem? (i := 48) rfl, rfl⟩
theorem tt_K_of : Cond.static y_K_of ∈ lw_g := List.mem_filter.mpr ⟨List.mem_of_getElem? (i := 49) rfl, rfl⟩
theorem tc_K_of : cd_K_of ∈ lw_g := List.mem_filter.mpr ⟨List.mem_of_getElem? (i := 50) rfl, rfl⟩
theorem tl_K_19 : Cond.methodLink "RankDesk$Packed" 19 y_I_numberOfTrailingZeros ∈ lw_g := List.mem_filter.mpr ⟨List.mem_of_getElem? (i := 51) rfl, rfl⟩
theorem tt_I_numberOfTrailingZeros : Cond.static y_I_numberOfTrailingZeros ∈ lw_g := List.mem_filter.mpr ⟨List.mem_of_getElem? (i := 52) rfl, rfl⟩
theorem tc_I_numberOfTrailingZeros : cd_I_numberOfTrailingZeros ∈ lw_g := List.mem_filter.mpr ⟨List.mem_of_getElem? (i := 53) rfl, rfl⟩
theorem tv_I_264 : Cond.constant "java/lang/Integer" 264 (65536 : Int32) ∈ lw_g := List.mem_filter.mpr ⟨List.mem_of_getElem? (i := 54) rfl, rfl⟩
theorem tk_K_8 : Cond.classLink "RankDesk$Packed" 8 "RankDesk$Packed" ∈ lw_g := List.mem_filter.mpr ⟨List.mem_of_getElem? (i := 55) rfl, rfl⟩
theorem ti_K : Cond.instantiable "RankDesk$Packed" 2 ∈ lw_g := List.mem_filter.mpr ⟨List.mem_of_getElem? (i := 56) rfl, rfl⟩
theorem tl_K_16 : Cond.methodLink "RankDesk$Packed" 16 y_K_init ∈ lw_g := List.mem_filter.mpr ⟨List.mem_of_getElem? (i := 57) rfl, rfl⟩
theorem tm_K_init : Cond.instanceMethod y_K_init ∈ lw_g := List.mem_filter.mpr ⟨List.mem_of_getElem? (i := 58) rfl, rfl⟩
theorem tc_K_init : cd_K_init ∈ lw_g := List.mem_filter.mpr ⟨List.mem_of_getElem? (i := 59) rfl, rfl⟩
theorem tl_K_1 : Cond.methodLink "RankDesk$Packed" 1 objectInit ∈ lw_g := List.mem_filter.mpr ⟨List.mem_of_getElem? (i := 60) rfl, rfl⟩
theorem tf_K_7 : Cond.fieldLink "RankDesk$Packed" 7 "RankDesk$Packed" "n" "I" ∈ lw_g := List.mem_filter.mpr ⟨List.mem_of_getElem? (i := 61) rfl, rfl⟩
theorem tf_K_13 : Cond.fieldLink "RankDesk$Packed" 13 "RankDesk$Packed" "row" "I" ∈ lw_g := List.mem_filter.mpr ⟨List.mem_of_getElem? (i := 62) rfl, rfl⟩
theorem tl_X_38 : Cond.methodLink "RankDesk" 38 y_K_exchanged ∈ lw_g := List.mem_filter.mpr ⟨List.mem_of_getElem? (i := 68) rfl, rfl⟩
theorem tm_K_exchanged : Cond.instanceMethod y_K_exchanged ∈ lw_g := List.mem_filter.mpr ⟨List.mem_of_getElem? (i := 69) rfl, rfl⟩
theorem ts_K_exchanged : Cond.selects "RankDesk$Packed" y_K_exchanged y_K_exchanged ∈ lw_g := List.mem_filter.mpr ⟨List.mem_of_getElem? (i := 70) rfl, rfl⟩
theorem tc_K_exchanged : cd_K_exchanged ∈ lw_g := List.mem_filter.mpr ⟨List.mem_of_getElem? (i := 71) rfl, rfl⟩
theorem tl_K_25 : Cond.methodLink "RankDesk$Packed" 25 y_K_at ∈ lw_g := List.mem_filter.mpr ⟨List.mem_of_getElem? (i := 72) rfl, rfl⟩
theorem tm_K_at : Cond.instanceMethod y_K_at ∈ lw_g := List.mem_filter.mpr ⟨List.mem_of_getElem? (i := 73) rfl, rfl⟩
theorem ts_K_at : Cond.selects "RankDesk$Packed" y_K_at y_K_at ∈ lw_g := List.mem_filter.mpr ⟨List.mem_of_getElem? (i := 74) rfl, rfl⟩
theorem tc_K_at : cd_K_at ∈ lw_g := List.mem_filter.mpr ⟨List.mem_of_getElem? (i := 75) rfl, rfl⟩
theorem tl_X_42 : Cond.methodLink "RankDesk" 42 y_K_rank ∈ lw_g := List.mem_filter.mpr ⟨List.mem_of_getElem? (i := 76) rfl, rfl⟩
theorem tm_K_rank : Cond.instanceMethod y_K_rank ∈ lw_g := List.mem_filter.mpr ⟨List.mem_of_getElem? (i := 77) rfl, rfl⟩
theorem ts_K_rank : Cond.selects "RankDesk$Packed" y_K_rank y_K_rank ∈ lw_g := List.mem_filter.mpr ⟨List.mem_of_getElem? (i := 78) rfl, rfl⟩
theorem tc_K_rank : cd_K_rank ∈ lw_g := List.mem_filter.mpr ⟨List.mem_of_getElem? (i := 79) rfl, rfl⟩
theorem tl_K_28 : Cond.methodLink "RankDesk$Packed" 28 y_I_bitCount ∈ lw_g := List.mem_filter.mpr ⟨List.mem_of_getElem? (i := 80) rfl, rfl⟩
theorem tt_I_bitCount : Cond.static y_I_bitCount ∈ lw_g := List.mem_filter.mpr ⟨List.mem_of_getElem? (i := 81) rfl, rfl⟩
theorem tc_I_bitCount : cd_I_bitCount ∈ lw_g := List.mem_filter.mpr ⟨List.mem_of_getElem? (i := 82) rfl, rfl⟩
theorem tv_I_265 : Cond.constant "java/lang/Integer" 265 (1431655765 : Int32) ∈ lw_g := List.mem_filter.mpr ⟨List.mem_of_getElem? (i := 83) rfl, rfl⟩
theorem tv_I_266 : Cond.constant "java/lang/Integer" 266 (858993459 : Int32) ∈ lw_g := List.mem_filter.mpr ⟨List.mem_of_getElem? (i := 84) rfl, rfl⟩
theorem tv_I_267 : Cond.constant "java/lang/Integer" 267 (252645135 : Int32) ∈ lw_g := List.mem_filter.mpr ⟨List.mem_of_getElem? (i := 85) rfl, rfl⟩
theorem tl_L_23 : Cond.methodLink "RankDeskLaw" 23 y_X_rank ∈ lw_g := List.mem_filter.mpr ⟨List.mem_of_getElem? (i := 86) rfl, rfl⟩
theorem tm_X_rank : Cond.instanceMethod y_X_rank ∈ lw_g := List.mem_filter.mpr ⟨List.mem_of_getElem? (i := 87) rfl, rfl⟩
theorem ts_X_rank : Cond.selects "RankDesk" y_X_rank y_X_rank ∈ lw_g := List.mem_filter.mpr ⟨List.mem_of_getElem? (i := 88) rfl, rfl⟩
theorem tc_X_rank : cd_X_rank ∈ lw_g := List.mem_filter.mpr ⟨List.mem_of_getElem? (i := 89) rfl, rfl⟩
theorem tl_L_28 : Cond.methodLink "RankDeskLaw" 28 y_X_unrank ∈ lw_g := List.mem_filter.mpr ⟨List.mem_of_getElem? (i := 90) rfl, rfl⟩
theorem tm_X_unrank : Cond.instanceMethod y_X_unrank ∈ lw_g := List.mem_filter.mpr ⟨List.mem_of_getElem? (i := 91) rfl, rfl⟩
theorem ts_X_unrank : Cond.selects "RankDesk" y_X_unrank y_X_unrank ∈ lw_g := List.mem_filter.mpr ⟨List.mem_of_getElem? (i := 92) rfl, rfl⟩
theorem tc_X_unrank : cd_X_unrank ∈ lw_g := List.mem_filter.mpr ⟨List.mem_of_getElem? (i := 93) rfl, rfl⟩
theorem tl_L_32 : Cond.methodLink "RankDeskLaw" 32 y_X_forward ∈ lw_g := List.mem_filter.mpr ⟨List.mem_of_getElem? (i := 94) rfl, rfl⟩
theorem tm_X_forward : Cond.instanceMethod y_X_forward ∈ lw_g := List.mem_filter.mpr ⟨List.mem_of_getElem? (i := 95) rfl, rfl⟩
theorem ts_X_forward : Cond.selects "RankDesk" y_X_forward y_X_forward ∈ lw_g := List.mem_filter.mpr ⟨List.mem_of_getElem? (i := 96) rfl, rfl⟩
theorem tc_X_forward : cd_X_forward ∈ lw_g := List.mem_filter.mpr ⟨List.mem_of_getElem? (i := 97) rfl, rfl⟩
theorem tl_L_37 : Cond.methodLink "RankDeskLaw" 37 y_X_at ∈ lw_g := List.mem_filter.mpr ⟨List.mem_of_getElem? (i := 98) rfl, rfl⟩
theorem tm_X_at : Cond.instanceMethod y_X_at ∈ lw_g := List.mem_filter.mpr ⟨List.mem_of_getElem? (i := 99) rfl, rfl⟩
theorem ts_X_at : Cond.selects "RankDesk" y_X_at y_X_at ∈ lw_g := List.mem_filter.mpr ⟨List.mem_of_getElem? (i := 100) rfl, rfl⟩
theorem tc_X_at : cd_X_at ∈ lw_g := List.mem_filter.mpr ⟨List.mem_of_getElem? (i := 101) rfl, rfl⟩
theorem tl_X_45 : Cond.methodLink "RankDesk" 45 y_K_at ∈ lw_g := List.mem_filter.mpr ⟨List.mem_of_getElem? (i := 102) rfl, rfl⟩
theorem tl_L_42 : Cond.methodLink "RankDeskLaw" 42 y_X_inversions ∈ lw_g := List.mem_filter.mpr ⟨List.mem_of_getElem? (i := 103) rfl, rfl⟩
theorem tm_X_inversions : Cond.instanceMethod y_X_inversions ∈ lw_g := List.mem_filter.mpr ⟨List.mem_of_getElem? (i := 104) rfl, rfl⟩
theorem ts_X_inversions : Cond.selects "RankDesk" y_X_inversions y_X_inversions ∈ lw_g := List.mem_filter.mpr ⟨List.mem_of_getElem? (i := 105) rfl, rfl⟩
theorem tc_X_inversions : cd_X_inversions ∈ lw_g := List.mem_filter.mpr ⟨List.mem_of_getElem? (i := 106) rfl, rfl⟩
theorem tl_L_46 : Cond.methodLink "RankDeskLaw" 46 y_X_exchanges ∈ lw_g := List.mem_filter.mpr ⟨List.mem_of_getElem? (i := 107) rfl, rfl⟩
theorem tm_X_exchanges : Cond.instanceMethod y_X_exchanges ∈ lw_g := List.mem_filter.mpr ⟨List.mem_of_getElem? (i := 108) rfl, rfl⟩
theorem ts_X_exchanges : Cond.selects "RankDesk" y_X_exchanges y_X_exchanges ∈ lw_g := List.mem_filter.mpr ⟨List.mem_of_getElem? (i := 109) rfl, rfl⟩
theorem tc_X_exchanges : cd_X_exchanges ∈ lw_g := List.mem_filter.mpr ⟨List.mem_of_getElem? (i := 110) rfl, rfl⟩
theorem tl_X_48 : Cond.methodLink "RankDesk" 48 y_K_ring ∈ lw_g := List.mem_filter.mpr ⟨List.mem_of_getElem? (i := 111) rfl, rfl⟩
theorem tm_K_ring : Cond.instanceMethod y_K_ring ∈ lw_g := List.mem_filter.mpr ⟨List.mem_of_getElem? (i := 112) rfl, rfl⟩
theorem ts_K_ring : Cond.selects "RankDesk$Packed" y_K_ring y_K_ring ∈ lw_g := List.mem_filter.mpr ⟨List.mem_of_getElem? (i := 113) rfl, rfl⟩
theorem tc_K_ring : cd_K_ring ∈ lw_g := List.mem_filter.mpr ⟨List.mem_of_getElem? (i := 114) rfl, rfl⟩
theorem tl_L_50 : Cond.methodLink "RankDeskLaw" 50 y_X_turns ∈ lw_g := List.mem_filter.mpr ⟨List.mem_of_getElem? (i := 115) rfl, rfl⟩
theorem tm_X_turns : Cond.instanceMethod y_X_turns ∈ lw_g := List.mem_filter.mpr ⟨List.mem_of_getElem? (i := 116) rfl, rfl⟩
theorem ts_X_turns : Cond.selects "RankDesk" y_X_turns y_X_turns ∈ lw_g := List.mem_filter.mpr ⟨List.mem_of_getElem? (i := 117) rfl, rfl⟩
theorem tc_X_turns : cd_X_turns ∈ lw_g := List.mem_filter.mpr ⟨List.mem_of_getElem? (i := 118) rfl, rfl⟩
theorem tl_X_55 : Cond.methodLink "RankDesk" 55 y_I_bitCount ∈ lw_g := List.mem_filter.mpr ⟨List.mem_of_getElem? (i := 119) rfl, rfl⟩
theorem tl_X_52 : Cond.methodLink "RankDesk" 52 y_X_divisor ∈ lw_g := List.mem_filter.mpr ⟨List.mem_of_getElem? (i := 120) rfl, rfl⟩
theorem tt_X_divisor : Cond.static y_X_divisor ∈ lw_g := List.mem_filter.mpr ⟨List.mem_of_getElem? (i := 121) rfl, rfl⟩
theorem tc_X_divisor : cd_X_divisor ∈ lw_g := List.mem_filter.mpr ⟨List.mem_of_getElem? (i := 122) rfl, rfl⟩
theorem tl_L_54 : Cond.methodLink "RankDeskLaw" 54 y_X_longest ∈ lw_g := List.mem_filter.mpr ⟨List.mem_of_getElem? (i := 123) rfl, rfl⟩
theorem tm_X_longest : Cond.instanceMethod y_X_longest ∈ lw_g := List.mem_filter.mpr ⟨List.mem_of_getElem? (i := 124) rfl, rfl⟩
theorem ts_X_longest : Cond.selects "RankDesk" y_X_longest y_X_longest ∈ lw_g := List.mem_filter.mpr ⟨List.mem_of_getElem? (i := 125) rfl, rfl⟩
theorem tc_X_longest : cd_X_longest ∈ lw_g := List.mem_filter.mpr ⟨List.mem_of_getElem? (i := 126) rfl, rfl⟩
theorem tl_L_58 : Cond.methodLink "RankDeskLaw" 58 y_X_powers ∈ lw_g := List.mem_filter.mpr ⟨List.mem_of_getElem? (i := 127) rfl, rfl⟩
theorem tm_X_powers : Cond.instanceMethod y_X_powers ∈ lw_g := List.mem_filter.mpr ⟨List.mem_of_getElem? (i := 128) rfl, rfl⟩
theorem ts_X_powers : Cond.selects "RankDesk" y_X_powers y_X_powers ∈ lw_g := List.mem_filter.mpr ⟨List.mem_of_getElem? (i := 129) rfl, rfl⟩
theorem tc_X_powers : cd_X_powers ∈ lw_g := List.mem_filter.mpr ⟨List.mem_of_getElem? (i := 130) rfl, rfl⟩
theorem tl_X_60 : Cond.methodLink "RankDesk" 60 y_K_first ∈ lw_g := List.mem_filter.mpr ⟨List.mem_of_getElem? (i := 131) rfl, rfl⟩
theorem tt_K_first : Cond.static y_K_first ∈ lw_g := List.mem_filter.mpr ⟨List.mem_of_getElem? (i := 132) rfl, rfl⟩
theorem tc_K_first : cd_K_first ∈ lw_g := List.mem_filter.mpr ⟨List.mem_of_getElem? (i := 133) rfl, rfl⟩
theorem tl_X_64 : Cond.methodLink "RankDesk" 64 y_K_then ∈ lw_g := List.mem_filter.mpr ⟨List.mem_of_getElem? (i := 134) rfl, rfl⟩
theorem tm_K_then : Cond.instanceMethod y_K_then ∈ lw_g := List.mem_filter.mpr ⟨List.mem_of_getElem? (i := 135) rfl, rfl⟩
theorem ts_K_then : Cond.selects "RankDesk$Packed" y_K_then y_K_then ∈ lw_g := List.mem_filter.mpr ⟨List.mem_of_getElem? (i := 136) rfl, rfl⟩
theorem tc_K_then : cd_K_then ∈ lw_g := List.mem_filter.mpr ⟨List.mem_of_getElem? (i := 137) rfl, rfl⟩
theorem tl_X_68 : Cond.methodLink "RankDesk" 68 y_K_packed ∈ lw_g := List.mem_filter.mpr ⟨List.mem_of_getElem? (i := 138) rfl, rfl⟩
theorem tm_K_packed : Cond.instanceMethod y_K_packed ∈ lw_g := List.mem_filter.mpr ⟨List.mem_of_getElem? (i := 139) rfl, rfl⟩
theorem ts_K_packed : Cond.selects "RankDesk$Packed" y_K_packed y_K_packed ∈ lw_g := List.mem_filter.mpr ⟨List.mem_of_getElem? (i := 140) rfl, rfl⟩
theorem tc_K_packed : cd_K_packed ∈ lw_g := List.mem_filter.mpr ⟨List.mem_of_getElem? (i := 141) rfl, rfl⟩
theorem tl_L_17 : Cond.methodLink "RankDeskLaw" 17 y_M_size ∈ lw_g := List.mem_filter.mpr ⟨List.mem_of_getElem? (i := 142) rfl, rfl⟩
theorem tm_M_size : Cond.instanceMethod y_M_size ∈ lw_g := List.mem_filter.mpr ⟨List.mem_of_getElem? (i := 143) rfl, rfl⟩
theorem ts_M_size : Cond.selects "RankDeskModel" y_M_size y_M_size ∈ lw_g := List.mem_filter.mpr ⟨List.mem_of_getElem? (i := 144) rfl, rfl⟩
theorem tc_M_size : cd_M_size ∈ lw_g := List.mem_filter.mpr ⟨List.mem_of_getElem? (i := 145) rfl, rfl⟩
theorem tv_M_1 : Cond.constant "RankDeskModel" 1 (2147483647 : Int32) ∈ lw_g := List.mem_filter.mpr ⟨List.mem_of_getElem? (i := 146) rfl, rfl⟩
theorem tk_L_10 : Cond.classLink "RankDeskLaw" 10 "RankDeskModel" ∈ lw_g := List.mem_filter.mpr ⟨List.mem_of_getElem? (i := 147) rfl, rfl⟩
theorem ti_M : Cond.instantiable "RankDeskModel" 4 ∈ lw_g := List.mem_filter.mpr ⟨List.mem_of_getElem? (i := 148) rfl, rfl⟩
theorem tl_L_12 : Cond.methodLink "RankDeskLaw" 12 y_M_init ∈ lw_g := List.mem_filter.mpr ⟨List.mem_of_getElem? (i := 149) rfl, rfl⟩
theorem tm_M_init : Cond.instanceMethod y_M_init ∈ lw_g := List.mem_filter.mpr ⟨List.mem_of_getElem? (i := 150) rfl, rfl⟩
theorem tc_M_init : cd_M_init ∈ lw_g := List.mem_filter.mpr ⟨List.mem_of_getElem? (i := 151) rfl, rfl⟩
theorem tl_M_12 : Cond.methodLink "RankDeskModel" 12 objectInit ∈ lw_g := List.mem_filter.mpr ⟨List.mem_of_getElem? (i := 152) rfl, rfl⟩
theorem tl_M_24 : Cond.methodLink "RankDeskModel" 24 y_M_size ∈ lw_g := List.mem_filter.mpr ⟨List.mem_of_getElem? (i := 153) rfl, rfl⟩
theorem tf_M_2 : Cond.fieldLink "RankDeskModel" 2 "RankDeskModel" "n" "I" ∈ lw_g := List.mem_filter.mpr ⟨List.mem_of_getElem? (i := 154) rfl, rfl⟩
theorem tf_M_8 : Cond.fieldLink "RankDeskModel" 8 "RankDeskModel" "p" "[I" ∈ lw_g := List.mem_filter.mpr ⟨List.mem_of_getElem? (i := 155) rfl, rfl⟩
theorem tf_M_18 : Cond.fieldLink "RankDeskModel" 18 "RankDeskModel" "q" "[I" ∈ lw_g := List.mem_filter.mpr ⟨List.mem_of_getElem? (i := 156) rfl, rfl⟩
theorem tf_M_21 : Cond.fieldLink "RankDeskModel" 21 "RankDeskModel" "left" "[I" ∈ lw_g := List.mem_filter.mpr ⟨List.mem_of_getElem? (i := 157) rfl, rfl⟩
theorem tl_L_22 : Cond.methodLink "RankDeskLaw" 22 y_M_swap ∈ lw_g := List.mem_filter.mpr ⟨List.mem_of_getElem? (i := 167) rfl, rfl⟩
theorem tm_M_swap : Cond.instanceMethod y_M_swap ∈ lw_g := List.mem_filter.mpr ⟨List.mem_of_getElem? (i := 168) rfl, rfl⟩
theorem ts_M_swap : Cond.selects "RankDeskModel" y_M_swap y_M_swap ∈ lw_g := List.mem_filter.mpr ⟨List.mem_of_getElem? (i := 169) rfl, rfl⟩
theorem tc_M_swap : cd_M_swap ∈ lw_g := List.mem_filter.mpr ⟨List.mem_of_getElem? (i := 170) rfl, rfl⟩
theorem tl_L_27 : Cond.methodLink "RankDeskLaw" 27 y_M_rank ∈ lw_g := List.mem_filter.mpr ⟨List.mem_of_getElem? (i := 171) rfl, rfl⟩
theorem tm_M_rank : Cond.instanceMethod y_M_rank ∈ lw_g := List.mem_filter.mpr ⟨List.mem_of_getElem? (i := 172) rfl, rfl⟩
theorem ts_M_rank : Cond.selects "RankDeskModel" y_M_rank y_M_rank ∈ lw_g := List.mem_filter.mpr ⟨List.mem_of_getElem? (i := 173) rfl, rfl⟩
theorem tc_M_rank : cd_M_rank ∈ lw_g := List.mem_filter.mpr ⟨List.mem_of_getElem? (i := 174) rfl, rfl⟩
theorem tl_M_28 : Cond.methodLink "RankDeskModel" 28 y_M_next ∈ lw_g := List.mem_filter.mpr ⟨List.mem_of_getElem? (i := 175) rfl, rfl⟩
theorem tm_M_next : Cond.instanceMethod y_M_next ∈ lw_g := List.mem_filter.mpr ⟨List.mem_of_getElem? (i := 177) rfl, rfl⟩
theorem tc_M_next : cd_M_next ∈ lw_g := List.mem_filter.mpr ⟨List.mem_of_getElem? (i := 178) rfl, rfl⟩
theorem tl_L_31 : Cond.methodLink "RankDeskLaw" 31 y_M_unrank ∈ lw_g := List.mem_filter.mpr ⟨List.mem_of_getElem? (i := 179) rfl, rfl⟩
theorem tm_M_unrank : Cond.instanceMethod y_M_unrank ∈ lw_g := List.mem_filter.mpr ⟨List.mem_of_getElem? (i := 180) rfl, rfl⟩
theorem ts_M_unrank : Cond.selects "RankDeskModel" y_M_unrank y_M_unrank ∈ lw_g := List.mem_filter.mpr ⟨List.mem_of_getElem? (i := 181) rfl, rfl⟩
theorem tc_M_unrank : cd_M_unrank ∈ lw_g := List.mem_filter.mpr ⟨List.mem_of_getElem? (i := 182) rfl, rfl⟩
theorem tl_M_32 : Cond.methodLink "RankDeskModel" 32 y_M_orders ∈ lw_g := List.mem_filter.mpr ⟨List.mem_of_getElem? (i := 183) rfl, rfl⟩
theorem tm_M_orders : Cond.instanceMethod y_M_orders ∈ lw_g := List.mem_filter.mpr ⟨List.mem_of_getElem? (i := 185) rfl, rfl⟩
theorem tc_M_orders : cd_M_orders ∈ lw_g := List.mem_filter.mpr ⟨List.mem_of_getElem? (i := 186) rfl, rfl⟩
theorem tl_L_36 : Cond.methodLink "RankDeskLaw" 36 y_M_forward ∈ lw_g := List.mem_filter.mpr ⟨List.mem_of_getElem? (i := 187) rfl, rfl⟩
theorem tm_M_forward : Cond.instanceMethod y_M_forward ∈ lw_g := List.mem_filter.mpr ⟨List.mem_of_getElem? (i := 188) rfl, rfl⟩
theorem ts_M_forward : Cond.selects "RankDeskModel" y_M_forward y_M_forward ∈ lw_g := List.mem_filter.mpr ⟨List.mem_of_getElem? (i := 189) rfl, rfl⟩
theorem tc_M_forward : cd_M_forward ∈ lw_g := List.mem_filter.mpr ⟨List.mem_of_getElem? (i := 190) rfl, rfl⟩
theorem tl_L_41 : Cond.methodLink "RankDeskLaw" 41 y_M_at ∈ lw_g := List.mem_filter.mpr ⟨List.mem_of_getElem? (i := 191) rfl, rfl⟩
theorem tm_M_at : Cond.instanceMethod y_M_at ∈ lw_g := List.mem_filter.mpr ⟨List.mem_of_getElem? (i := 192) rfl, rfl⟩
theorem ts_M_at : Cond.selects "RankDeskModel" y_M_at y_M_at ∈ lw_g := List.mem_filter.mpr ⟨List.mem_of_getElem? (i := 193) rfl, rfl⟩
theorem tc_M_at : cd_M_at ∈ lw_g := List.mem_filter.mpr ⟨List.mem_of_getElem? (i := 194) rfl, rfl⟩
theorem tl_L_45 : Cond.methodLink "RankDeskLaw" 45 y_M_inversions ∈ lw_g := List.mem_filter.mpr ⟨List.mem_of_getElem? (i := 195) rfl, rfl⟩
theorem tm_M_inversions : Cond.instanceMethod y_M_inversions ∈ lw_g := List.mem_filter.mpr ⟨List.mem_of_getElem? (i := 196) rfl, rfl⟩
theorem ts_M_inversions : Cond.selects "RankDeskModel" y_M_inversions y_M_inversions ∈ lw_g := List.mem_filter.mpr ⟨List.mem_of_getElem? (i := 197) rfl, rfl⟩
theorem tc_M_inversions : cd_M_inversions ∈ lw_g := List.mem_filter.mpr ⟨List.mem_of_getElem? (i := 198) rfl, rfl⟩
theorem tl_L_49 : Cond.methodLink "RankDeskLaw" 49 y_M_exchanges ∈ lw_g := List.mem_filter.mpr ⟨List.mem_of_getElem? (i := 199) rfl, rfl⟩
theorem tm_M_exchanges : Cond.instanceMethod y_M_exchanges ∈ lw_g := List.mem_filter.mpr ⟨List.mem_of_getElem? (i := 200) rfl, rfl⟩
theorem ts_M_exchanges : Cond.selects "RankDeskModel" y_M_exchanges y_M_exchanges ∈ lw_g := List.mem_filter.mpr ⟨List.mem_of_getElem? (i := 201) rfl, rfl⟩
theorem tc_M_exchanges : cd_M_exchanges ∈ lw_g := List.mem_filter.mpr ⟨List.mem_of_getElem? (i := 202) rfl, rfl⟩
theorem tl_L_53 : Cond.methodLink "RankDeskLaw" 53 y_M_turns ∈ lw_g := List.mem_filter.mpr ⟨List.mem_of_getElem? (i := 203) rfl, rfl⟩
theorem tm_M_turns : Cond.instanceMethod y_M_turns ∈ lw_g := List.mem_filter.mpr ⟨List.mem_of_getElem? (i := 204) rfl, rfl⟩
theorem ts_M_turns : Cond.selects "RankDeskModel" y_M_turns y_M_turns ∈ lw_g := List.mem_filter.mpr ⟨List.mem_of_getElem? (i := 205) rfl, rfl⟩
theorem tc_M_turns : cd_M_turns ∈ lw_g := List.mem_filter.mpr ⟨List.mem_of_getElem? (i := 206) rfl, rfl⟩
theorem tl_L_57 : Cond.methodLink "RankDeskLaw" 57 y_M_longest ∈ lw_g := List.mem_filter.mpr ⟨List.mem_of_getElem? (i := 207) rfl, rfl⟩
theorem tm_M_longest : Cond.instanceMethod y_M_longest ∈ lw_g := List.mem_filter.mpr ⟨List.mem_of_getElem? (i := 208) rfl, rfl⟩
theorem ts_M_longest : Cond.selects "RankDeskModel" y_M_longest y_M_longest ∈ lw_g := List.mem_filter.mpr ⟨List.mem_of_getElem? (i := 209) rfl, rfl⟩
theorem tc_M_longest : cd_M_longest ∈ lw_g := List.mem_filter.mpr ⟨List.mem_of_getElem? (i := 210) rfl, rfl⟩
theorem tl_L_61 : Cond.methodLink "RankDeskLaw" 61 y_M_powers ∈ lw_g := List.mem_filter.mpr ⟨List.mem_of_getElem? (i := 211) rfl, rfl⟩
theorem tm_M_powers : Cond.instanceMethod y_M_powers ∈ lw_g := List.mem_filter.mpr ⟨List.mem_of_getElem? (i := 212) rfl, rfl⟩
theorem ts_M_powers : Cond.selects "RankDeskModel" y_M_powers y_M_powers ∈ lw_g := List.mem_filter.mpr ⟨List.mem_of_getElem? (i := 213) rfl, rfl⟩
theorem tc_M_powers : cd_M_powers ∈ lw_g := List.mem_filter.mpr ⟨List.mem_of_getElem? (i := 214) rfl, rfl⟩
theorem iw_X : ∀ w ∈ u_ws "RankDesk" F_X 4, w ∈ lw_g := by decide +kernel
theorem iw_K : ∀ w ∈ u_ws "RankDesk$Packed" F_K 2, w ∈ lw_g := by decide +kernel
theorem iw_M : ∀ w ∈ u_ws "RankDeskModel" F_M 4, w ∈ lw_g := by decide +kernel
theorem gd_in {w0 : Cond} (h0 : w0 ∈ lw_g) : GoodIn lw_g (w0 :: lw_g) := fun w hw => by
  have hm : w ∈ lw_g := by
    rcases List.mem_cons.mp hw with h | h
    · rw [h]; exact h0
    · exact h
  exact ⟨hm, good_of_word (List.mem_filter.mp hm).2⟩
theorem mb_X_init : md_B y_X_init b_X_init 1 none 0 := ⟨tc_X_init, tn_X, by decide +kernel⟩
theorem mb_X_size : md_B y_X_size b_X_size 2 none 1 := ⟨tc_X_size, tn_X, by decide +kernel⟩
theorem mb_X_swap : md_B y_X_swap b_X_swap 5 (some .boolean) 2 := ⟨tc_X_swap, tn_X, by decide +kernel⟩
theorem mb_X_place : md_B y_X_place b_X_place 2 (some .int) 1 := ⟨tc_X_place, tn_X, by decide +kernel⟩
theorem mb_X_order : md_B y_X_order b_X_order 1 (some (.object "RankDesk$Packed")) 0 := ⟨tc_X_order, tn_X, by decide +kernel⟩
theorem mb_K_of : md_B y_K_of b_K_of 10 (some (.object "RankDesk$Packed")) 3 := ⟨tc_K_of, tn_K, by decide +kernel⟩
theorem mb_I_numberOfTrailingZeros : md_B y_I_numberOfTrailingZeros b_I_numberOfTrailingZeros 2 (some .int) 1 := ⟨tc_I_numberOfTrailingZeros, tn_I, by decide +kernel⟩
theorem mb_K_init : md_B y_K_init b_K_init 3 none 2 := ⟨tc_K_init, tn_K, by decide +kernel⟩
theorem mb_K_exchanged : md_B y_K_exchanged b_K_exchanged 4 (some (.object "RankDesk$Packed")) 2 := ⟨tc_K_exchanged, tn_K, by decide +kernel⟩
theorem mb_K_at : md_B y_K_at b_K_at 2 (some .int) 1 := ⟨tc_K_at, tn_K, by decide +kernel⟩
theorem mb_K_rank : md_B y_K_rank b_K_rank 6 (some .int) 1 := ⟨tc_K_rank, tn_K, by decide +kernel⟩
theorem mb_I_bitCount : md_B y_I_bitCount b_I_bitCount 1 (some .int) 1 := ⟨tc_I_bitCount, tn_I, by decide +kernel⟩
theorem mb_X_rank : md_B y_X_rank b_X_rank 1 (some .int) 0 := ⟨tc_X_rank, tn_X, by decide +kernel⟩
theorem mb_X_unrank : md_B y_X_unrank b_X_unrank 2 none 1 := ⟨tc_X_unrank, tn_X, by decide +kernel⟩
theorem mb_X_forward : md_B y_X_forward b_X_forward 1 (some .boolean) 0 := ⟨tc_X_forward, tn_X, by decide +kernel⟩
theorem mb_X_at : md_B y_X_at b_X_at 2 (some .int) 1 := ⟨tc_X_at, tn_X, by decide +kernel⟩
theorem mb_X_inversions : md_B y_X_inversions b_X_inversions 4 (some .int) 0 := ⟨tc_X_inversions, tn_X, by decide +kernel⟩
theorem mb_X_exchanges : md_B y_X_exchanges b_X_exchanges 5 (some .int) 0 := ⟨tc_X_exchanges, tn_X, by decide +kernel⟩
theorem mb_K_ring : md_B y_K_ring b_K_ring 5 (some .int) 2 := ⟨tc_K_ring, tn_K, by decide +kernel⟩
theorem mb_X_turns : md_B y_X_turns b_X_turns 7 (some .int) 0 := ⟨tc_X_turns, tn_X, by decide +kernel⟩
theorem mb_X_divisor : md_B y_X_divisor b_X_divisor 2 (some .int) 2 := ⟨tc_X_divisor, tn_X, by decide +kernel⟩
theorem mb_X_longest : md_B y_X_longest b_X_longest 8 (some .int) 0 := ⟨tc_X_longest, tn_X, by decide +kernel⟩
theorem mb_X_powers : md_B y_X_powers b_X_powers 5 (some .int) 1 := ⟨tc_X_powers, tn_X, by decide +kernel⟩
theorem mb_K_first : md_B y_K_first b_K_first 3 (some (.object "RankDesk$Packed")) 1 := ⟨tc_K_first, tn_K, by decide +kernel⟩
theorem mb_K_then : md_B y_K_then b_K_then 4 (some (.object "RankDesk$Packed")) 1 := ⟨tc_K_then, tn_K, by decide +kernel⟩
theorem mb_K_packed : md_B y_K_packed b_K_packed 1 (some .int) 0 := ⟨tc_K_packed, tn_K, by decide +kernel⟩
theorem mb_M_size : md_B y_M_size b_M_size 3 none 1 := ⟨tc_M_size, tn_M, by decide +kernel⟩
theorem mb_M_init : md_B y_M_init b_M_init 1 none 0 := ⟨tc_M_init, tn_M, by decide +kernel⟩
theorem mb_M_swap : md_B y_M_swap b_M_swap 6 (some .boolean) 2 := ⟨tc_M_swap, tn_M, by decide +kernel⟩
theorem mb_M_rank : md_B y_M_rank b_M_rank 4 (some .int) 0 := ⟨tc_M_rank, tn_M, by decide +kernel⟩
theorem mb_M_next : md_B y_M_next b_M_next 7 (some .boolean) 1 := ⟨tc_M_next, tn_M, by decide +kernel⟩
theorem mb_M_unrank : md_B y_M_unrank b_M_unrank 4 none 1 := ⟨tc_M_unrank, tn_M, by decide +kernel⟩
theorem mb_M_orders : md_B y_M_orders b_M_orders 3 (some .int) 0 := ⟨tc_M_orders, tn_M, by decide +kernel⟩
theorem mb_M_forward : md_B y_M_forward b_M_forward 1 (some .boolean) 0 := ⟨tc_M_forward, tn_M, by decide +kernel⟩
theorem mb_M_at : md_B y_M_at b_M_at 2 (some .int) 1 := ⟨tc_M_at, tn_M, by decide +kernel⟩
theorem mb_M_inversions : md_B y_M_inversions b_M_inversions 4 (some .int) 0 := ⟨tc_M_inversions, tn_M, by decide +kernel⟩
theorem mb_M_exchanges : md_B y_M_exchanges b_M_exchanges 5 (some .int) 0 := ⟨tc_M_exchanges, tn_M, by decide +kernel⟩
theorem mb_M_turns : md_B y_M_turns b_M_turns 4 (some .int) 0 := ⟨tc_M_turns, tn_M, by decide +kernel⟩
theorem mb_M_longest : md_B y_M_longest b_M_longest 7 (some .int) 0 := ⟨tc_M_longest, tn_M, by decide +kernel⟩
theorem mb_M_powers : md_B y_M_powers b_M_powers 5 (some .int) 1 := ⟨tc_M_powers, tn_M, by decide +kernel⟩
end
section
/-! what each instruction is -/
theorem d_X_init_0 : decode b_X_init 0 = .ok (.aload_n 0, 1) := by decide +kernel
theorem d_X_init_1 : decode b_X_init 1 = .ok (.invokespecial 1, 3) := by decide +kernel
theorem d_X_init_4 : decode b_X_init 4 = .ok (.aload_n 0, 1) := by decide +kernel
theorem d_X_init_5 : decode b_X_init 5 = .ok (.bipush 8, 2) := by decide +kernel
theorem d_X_init_7 : decode b_X_init 7 = .ok (.newarray .int, 2) := by decide +kernel
theorem d_X_init_9 : decode b_X_init 9 = .ok (.dup, 1) := by decide +kernel
theorem d_X_init_10 : decode b_X_init 10 = .ok (.iconst 0, 1) := by decide +kernel
theorem d_X_init_11 : decode b_X_init 11 = .ok (.iconst 1, 1) := by decide +kernel
theorem d_X_init_12 : decode b_X_init 12 = .ok (.iastore, 1) := by decide +kernel
theorem d_X_init_13 : decode b_X_init 13 = .ok (.dup, 1) := by decide +kernel
theorem d_X_init_14 : decode b_X_init 14 = .ok (.iconst 1, 1) := by decide +kernel
theorem d_X_init_15 : decode b_X_init 15 = .ok (.iconst 1, 1) := by decide +kernel
theorem d_X_init_16 : decode b_X_init 16 = .ok (.iastore, 1) := by decide +kernel
theorem d_X_init_17 : decode b_X_init 17 = .ok (.dup, 1) := by decide +kernel
theorem d_X_init_18 : decode b_X_init 18 = .ok (.iconst 2, 1) := by decide +kernel
theorem d_X_init_19 : decode b_X_init 19 = .ok (.iconst 2, 1) := by decide +kernel
theorem d_X_init_20 : decode b_X_init 20 = .ok (.iastore, 1) := by decide +kernel
theorem d_X_init_21 : decode b_X_init 21 = .ok (.dup, 1) := by decide +kernel
theorem d_X_init_22 : decode b_X_init 22 = .ok (.iconst 3, 1) := by decide +kernel
theorem d_X_init_23 : decode b_X_init 23 = .ok (.bipush 6, 2) := by decide +kernel
theorem d_X_init_25 : decode b_X_init 25 = .ok (.iastore, 1) := by decide +kernel
theorem d_X_init_26 : decode b_X_init 26 = .ok (.dup, 1) := by decide +kernel
theorem d_X_init_27 : decode b_X_init 27 = .ok (.iconst 4, 1) := by decide +kernel
theorem d_X_init_28 : decode b_X_init 28 = .ok (.bipush 24, 2) := by decide +kernel
theorem d_X_init_30 : decode b_X_init 30 = .ok (.iastore, 1) := by decide +kernel
theorem d_X_init_31 : decode b_X_init 31 = .ok (.dup, 1) := by decide +kernel
theorem d_X_init_32 : decode b_X_init 32 = .ok (.iconst 5, 1) := by decide +kernel
theorem d_X_init_33 : decode b_X_init 33 = .ok (.bipush 120, 2) := by decide +kernel
theorem d_X_init_35 : decode b_X_init 35 = .ok (.iastore, 1) := by decide +kernel
theorem d_X_init_36 : decode b_X_init 36 = .ok (.dup, 1) := by decide +kernel
theorem d_X_init_37 : decode b_X_init 37 = .ok (.bipush 6, 2) := by decide +kernel
theorem d_X_init_39 : decode b_X_init 39 = .ok (.sipush 720, 3) := by decide +kernel
theorem d_X_init_42 : decode b_X_init 42 = .ok (.iastore, 1) := by decide +kernel
theorem d_X_init_43 : decode b_X_init 43 = .ok (.dup, 1) := by decide +kernel
theorem d_X_init_44 : decode b_X_init 44 = .ok (.bipush 7, 2) := by decide +kernel
theorem d_X_init_46 : decode b_X_init 46 = .ok (.sipush 5040, 3) := by decide +kernel
theorem d_X_init_49 : decode b_X_init 49 = .ok (.iastore, 1) := by decide +kernel
theorem d_X_init_50 : decode b_X_init 50 = .ok (.putfield 7, 3) := by decide +kernel
theorem d_X_init_53 : decode b_X_init 53 = .ok (.aload_n 0, 1) := by decide +kernel
theorem d_X_init_54 : decode b_X_init 54 = .ok (.bipush 7, 2) := by decide +kernel
theorem d_X_init_56 : decode b_X_init 56 = .ok (.newarray .int, 2) := by decide +kernel
theorem d_X_init_58 : decode b_X_init 58 = .ok (.putfield 13, 3) := by decide +kernel
theorem d_X_init_61 : decode b_X_init 61 = .ok (.aload_n 0, 1) := by decide +kernel
theorem d_X_init_62 : decode b_X_init 62 = .ok (.iconst 4, 1) := by decide +kernel
theorem d_X_init_63 : decode b_X_init 63 = .ok (.putfield 16, 3) := by decide +kernel
theorem d_X_init_66 : decode b_X_init 66 = .ok (.aload_n 0, 1) := by decide +kernel
theorem d_X_init_67 : decode b_X_init 67 = .ok (.iconst 0, 1) := by decide +kernel
theorem d_X_init_68 : decode b_X_init 68 = .ok (.putfield 20, 3) := by decide +kernel
theorem d_X_init_71 : decode b_X_init 71 = .ok (.return_, 1) := by decide +kernel
theorem d_X_order_0 : decode b_X_order 0 = .ok (.aload_n 0, 1) := by decide +kernel
theorem d_X_order_1 : decode b_X_order 1 = .ok (.getfield 16, 3) := by decide +kernel
theorem d_X_order_4 : decode b_X_order 4 = .ok (.aload_n 0, 1) := by decide +kernel
theorem d_X_order_5 : decode b_X_order 5 = .ok (.getfield 20, 3) := by decide +kernel
theorem d_X_order_8 : decode b_X_order 8 = .ok (.aload_n 0, 1) := by decide +kernel
theorem d_X_order_9 : decode b_X_order 9 = .ok (.getfield 7, 3) := by decide +kernel
theorem d_X_order_12 : decode b_X_order 12 = .ok (.invokestatic 23, 3) := by decide +kernel
theorem d_X_order_15 : decode b_X_order 15 = .ok (.areturn, 1) := by decide +kernel
theorem d_X_place_0 : decode b_X_place 0 = .ok (.iload_n 1, 1) := by decide +kernel
theorem d_X_place_1 : decode b_X_place 1 = .ok (.ldc 29, 2) := by decide +kernel
theorem d_X_place_3 : decode b_X_place 3 = .ok (.iand, 1) := by decide +kernel
theorem d_X_place_4 : decode b_X_place 4 = .ok (.aload_n 0, 1) := by decide +kernel
theorem d_X_place_5 : decode b_X_place 5 = .ok (.getfield 16, 3) := by decide +kernel
theorem d_X_place_8 : decode b_X_place 8 = .ok (.irem, 1) := by decide +kernel
theorem d_X_place_9 : decode b_X_place 9 = .ok (.ireturn, 1) := by decide +kernel
theorem d_X_size_0 : decode b_X_size 0 = .ok (.aload_n 0, 1) := by decide +kernel
theorem d_X_size_1 : decode b_X_size 1 = .ok (.iconst 1, 1) := by decide +kernel
theorem d_X_size_2 : decode b_X_size 2 = .ok (.iload_n 1, 1) := by decide +kernel
theorem d_X_size_3 : decode b_X_size 3 = .ok (.ldc 29, 2) := by decide +kernel
theorem d_X_size_5 : decode b_X_size 5 = .ok (.iand, 1) := by decide +kernel
theorem d_X_size_6 : decode b_X_size 6 = .ok (.bipush 7, 2) := by decide +kernel
theorem d_X_size_8 : decode b_X_size 8 = .ok (.irem, 1) := by decide +kernel
theorem d_X_size_9 : decode b_X_size 9 = .ok (.iadd, 1) := by decide +kernel
theorem d_X_size_10 : decode b_X_size 10 = .ok (.putfield 16, 3) := by decide +kernel
theorem d_X_size_13 : decode b_X_size 13 = .ok (.aload_n 0, 1) := by decide +kernel
theorem d_X_size_14 : decode b_X_size 14 = .ok (.iconst 0, 1) := by decide +kernel
theorem d_X_size_15 : decode b_X_size 15 = .ok (.putfield 20, 3) := by decide +kernel
theorem d_X_size_18 : decode b_X_size 18 = .ok (.return_, 1) := by decide +kernel
theorem d_X_swap_0 : decode b_X_swap 0 = .ok (.aload_n 0, 1) := by decide +kernel
theorem d_X_swap_1 : decode b_X_swap 1 = .ok (.iload_n 1, 1) := by decide +kernel
theorem d_X_swap_2 : decode b_X_swap 2 = .ok (.invokevirtual 30, 3) := by decide +kernel
theorem d_X_swap_5 : decode b_X_swap 5 = .ok (.istore_n 3, 1) := by decide +kernel
theorem d_X_swap_6 : decode b_X_swap 6 = .ok (.aload_n 0, 1) := by decide +kernel
theorem d_X_swap_7 : decode b_X_swap 7 = .ok (.iload_n 2, 1) := by decide +kernel
theorem d_X_swap_8 : decode b_X_swap 8 = .ok (.invokevirtual 30, 3) := by decide +kernel
theorem d_X_swap_11 : decode b_X_swap 11 = .ok (.istore 4, 2) := by decide +kernel
theorem d_X_swap_13 : decode b_X_swap 13 = .ok (.iload_n 3, 1) := by decide +kernel
theorem d_X_swap_14 : decode b_X_swap 14 = .ok (.iload 4, 2) := by decide +kernel
theorem d_X_swap_16 : decode b_X_swap 16 = .ok (.if_icmp .ne 5, 3) := by decide +kernel
theorem d_X_swap_19 : decode b_X_swap 19 = .ok (.iconst 0, 1) := by decide +kernel
theorem d_X_swap_20 : decode b_X_swap 20 = .ok (.ireturn, 1) := by decide +kernel
theorem d_X_swap_21 : decode b_X_swap 21 = .ok (.aload_n 0, 1) := by decide +kernel
theorem d_X_swap_22 : decode b_X_swap 22 = .ok (.aload_n 0, 1) := by decide +kernel
theorem d_X_swap_23 : decode b_X_swap 23 = .ok (.invokevirtual 34, 3) := by decide +kernel
theorem d_X_swap_26 : decode b_X_swap 26 = .ok (.iload_n 3, 1) := by decide +kernel
theorem d_X_swap_27 : decode b_X_swap 27 = .ok (.iload 4, 2) := by decide +kernel
theorem d_X_swap_29 : decode b_X_swap 29 = .ok (.invokevirtual 38, 3) := by decide +kernel
theorem d_X_swap_32 : decode b_X_swap 32 = .ok (.aload_n 0, 1) := by decide +kernel
theorem d_X_swap_33 : decode b_X_swap 33 = .ok (.getfield 7, 3) := by decide +kernel
theorem d_X_swap_36 : decode b_X_swap 36 = .ok (.invokevirtual 42, 3) := by decide +kernel
theorem d_X_swap_39 : decode b_X_swap 39 = .ok (.putfield 20, 3) := by decide +kernel
theorem d_X_swap_42 : decode b_X_swap 42 = .ok (.iconst 1, 1) := by decide +kernel
theorem d_X_swap_43 : decode b_X_swap 43 = .ok (.ireturn, 1) := by decide +kernel
theorem d_X_rank_0 : decode b_X_rank 0 = .ok (.aload_n 0, 1) := by decide +kernel
theorem d_X_rank_1 : decode b_X_rank 1 = .ok (.getfield 20, 3) := by decide +kernel
theorem d_X_rank_4 : decode b_X_rank 4 = .ok (.ireturn, 1) := by decide +kernel
theorem d_X_unrank_0 : decode b_X_unrank 0 = .ok (.aload_n 0, 1) := by decide +kernel
theorem d_X_unrank_1 : decode b_X_unrank 1 = .ok (.iload_n 1, 1) := by decide +kernel
theorem d_X_unrank_2 : decode b_X_unrank 2 = .ok (.ldc 29, 2) := by decide +kernel
theorem d_X_unrank_4 : decode b_X_unrank 4 = .ok (.iand, 1) := by decide +kernel
theorem d_X_unrank_5 : decode b_X_unrank 5 = .ok (.aload_n 0, 1) := by decide +kernel
theorem d_X_unrank_6 : decode b_X_unrank 6 = .ok (.getfield 7, 3) := by decide +kernel
theorem d_X_unrank_9 : decode b_X_unrank 9 = .ok (.aload_n 0, 1) := by decide +kernel
theorem d_X_unrank_10 : decode b_X_unrank 10 = .ok (.getfield 16, 3) := by decide +kernel
theorem d_X_unrank_13 : decode b_X_unrank 13 = .ok (.iaload, 1) := by decide +kernel
theorem d_X_unrank_14 : decode b_X_unrank 14 = .ok (.irem, 1) := by decide +kernel
theorem d_X_unrank_15 : decode b_X_unrank 15 = .ok (.putfield 20, 3) := by decide +kernel
theorem d_X_unrank_18 : decode b_X_unrank 18 = .ok (.return_, 1) := by decide +kernel
theorem d_X_forward_0 : decode b_X_forward 0 = .ok (.aload_n 0, 1) := by decide +kernel
theorem d_X_forward_1 : decode b_X_forward 1 = .ok (.dup, 1) := by decide +kernel
theorem d_X_forward_2 : decode b_X_forward 2 = .ok (.getfield 20, 3) := by decide +kernel
theorem d_X_forward_5 : decode b_X_forward 5 = .ok (.iconst 1, 1) := by decide +kernel
theorem d_X_forward_6 : decode b_X_forward 6 = .ok (.iadd, 1) := by decide +kernel
theorem d_X_forward_7 : decode b_X_forward 7 = .ok (.putfield 20, 3) := by decide +kernel
theorem d_X_forward_10 : decode b_X_forward 10 = .ok (.aload_n 0, 1) := by decide +kernel
theorem d_X_forward_11 : decode b_X_forward 11 = .ok (.getfield 20, 3) := by decide +kernel
theorem d_X_forward_14 : decode b_X_forward 14 = .ok (.aload_n 0, 1) := by decide +kernel
theorem d_X_forward_15 : decode b_X_forward 15 = .ok (.getfield 7, 3) := by decide +kernel
theorem d_X_forward_18 : decode b_X_forward 18 = .ok (.aload_n 0, 1) := by decide +kernel
theorem d_X_forward_19 : decode b_X_forward 19 = .ok (.getfield 16, 3) := by decide +kernel
theorem d_X_forward_22 : decode b_X_forward 22 = .ok (.iaload, 1) := by decide +kernel
theorem d_X_forward_23 : decode b_X_forward 23 = .ok (.if_icmp .ge 5, 3) := by decide +kernel
theorem d_X_forward_26 : decode b_X_forward 26 = .ok (.iconst 1, 1) := by decide +kernel
theorem d_X_forward_27 : decode b_X_forward 27 = .ok (.ireturn, 1) := by decide +kernel
theorem d_X_forward_28 : decode b_X_forward 28 = .ok (.aload_n 0, 1) := by decide +kernel
theorem d_X_forward_29 : decode b_X_forward 29 = .ok (.iconst 0, 1) := by decide +kernel
theorem d_X_forward_30 : decode b_X_forward 30 = .ok (.putfield 20, 3) := by decide +kernel
theorem d_X_forward_33 : decode b_X_forward 33 = .ok (.iconst 0, 1) := by decide +kernel
theorem d_X_forward_34 : decode b_X_forward 34 = .ok (.ireturn, 1) := by decide +kernel
theorem d_X_at_0 : decode b_X_at 0 = .ok (.aload_n 0, 1) := by decide +kernel
theorem d_X_at_1 : decode b_X_at 1 = .ok (.invokevirtual 34, 3) := by decide +kernel
theorem d_X_at_4 : decode b_X_at 4 = .ok (.aload_n 0, 1) := by decide +kernel
theorem d_X_at_5 : decode b_X_at 5 = .ok (.iload_n 1, 1) := by decide +kernel
theorem d_X_at_6 : decode b_X_at 6 = .ok (.invokevirtual 30, 3) := by decide +kernel
theorem d_X_at_9 : decode b_X_at 9 = .ok (.invokevirtual 45, 3) := by decide +kernel
theorem d_X_at_12 : decode b_X_at 12 = .ok (.ireturn, 1) := by decide +kernel
theorem d_X_inversions_0 : decode b_X_inversions 0 = .ok (.iconst 0, 1) := by decide +kernel
theorem d_X_inversions_1 : decode b_X_inversions 1 = .ok (.istore_n 1, 1) := by decide +kernel
theorem d_X_inversions_2 : decode b_X_inversions 2 = .ok (.aload_n 0, 1) := by decide +kernel
theorem d_X_inversions_3 : decode b_X_inversions 3 = .ok (.getfield 20, 3) := by decide +kernel
theorem d_X_inversions_6 : decode b_X_inversions 6 = .ok (.istore_n 2, 1) := by decide +kernel
theorem d_X_inversions_7 : decode b_X_inversions 7 = .ok (.aload_n 0, 1) := by decide +kernel
theorem d_X_inversions_8 : decode b_X_inversions 8 = .ok (.getfield 16, 3) := by decide +kernel
theorem d_X_inversions_11 : decode b_X_inversions 11 = .ok (.iconst 1, 1) := by decide +kernel
theorem d_X_inversions_12 : decode b_X_inversions 12 = .ok (.isub, 1) := by decide +kernel
theorem d_X_inversions_13 : decode b_X_inversions 13 = .ok (.istore_n 3, 1) := by decide +kernel
theorem d_X_inversions_14 : decode b_X_inversions 14 = .ok (.iload_n 3, 1) := by decide +kernel
theorem d_X_inversions_15 : decode b_X_inversions 15 = .ok (.ifCond .lt 29, 3) := by decide +kernel
theorem d_X_inversions_18 : decode b_X_inversions 18 = .ok (.iload_n 1, 1) := by decide +kernel
theorem d_X_inversions_19 : decode b_X_inversions 19 = .ok (.iload_n 2, 1) := by decide +kernel
theorem d_X_inversions_20 : decode b_X_inversions 20 = .ok (.aload_n 0, 1) := by decide +kernel
theorem d_X_inversions_21 : decode b_X_inversions 21 = .ok (.getfield 7, 3) := by decide +kernel
theorem d_X_inversions_24 : decode b_X_inversions 24 = .ok (.iload_n 3, 1) := by decide +kernel
theorem d_X_inversions_25 : decode b_X_inversions 25 = .ok (.iaload, 1) := by decide +kernel
theorem d_X_inversions_26 : decode b_X_inversions 26 = .ok (.idiv, 1) := by decide +kernel
theorem d_X_inversions_27 : decode b_X_inversions 27 = .ok (.iadd, 1) := by decide +kernel
theorem d_X_inversions_28 : decode b_X_inversions 28 = .ok (.istore_n 1, 1) := by decide +kernel
theorem d_X_inversions_29 : decode b_X_inversions 29 = .ok (.iload_n 2, 1) := by decide +kernel
theorem d_X_inversions_30 : decode b_X_inversions 30 = .ok (.aload_n 0, 1) := by decide +kernel
theorem d_X_inversions_31 : decode b_X_inversions 31 = .ok (.getfield 7, 3) := by decide +kernel
theorem d_X_inversions_34 : decode b_X_inversions 34 = .ok (.iload_n 3, 1) := by decide +kernel
theorem d_X_inversions_35 : decode b_X_inversions 35 = .ok (.iaload, 1) := by decide +kernel
theorem d_X_inversions_36 : decode b_X_inversions 36 = .ok (.irem, 1) := by decide +kernel
theorem d_X_inversions_37 : decode b_X_inversions 37 = .ok (.istore_n 2, 1) := by decide +kernel
theorem d_X_inversions_38 : decode b_X_inversions 38 = .ok (.iinc 3 (-1), 3) := by decide +kernel
theorem d_X_inversions_41 : decode b_X_inversions 41 = .ok (.goto (-27), 3) := by decide +kernel
theorem d_X_inversions_44 : decode b_X_inversions 44 = .ok (.iload_n 1, 1) := by decide +kernel
theorem d_X_inversions_45 : decode b_X_inversions 45 = .ok (.ireturn, 1) := by decide +kernel
theorem d_X_exchanges_0 : decode b_X_exchanges 0 = .ok (.aload_n 0, 1) := by decide +kernel
theorem d_X_exchanges_1 : decode b_X_exchanges 1 = .ok (.invokevirtual 34, 3) := by decide +kernel
theorem d_X_exchanges_4 : decode b_X_exchanges 4 = .ok (.astore_n 1, 1) := by decide +kernel
theorem d_X_exchanges_5 : decode b_X_exchanges 5 = .ok (.iconst 0, 1) := by decide +kernel
theorem d_X_exchanges_6 : decode b_X_exchanges 6 = .ok (.istore_n 2, 1) := by decide +kernel
theorem d_X_exchanges_7 : decode b_X_exchanges 7 = .ok (.iconst 0, 1) := by decide +kernel
theorem d_X_exchanges_8 : decode b_X_exchanges 8 = .ok (.istore_n 3, 1) := by decide +kernel
theorem d_X_exchanges_9 : decode b_X_exchanges 9 = .ok (.iconst 0, 1) := by decide +kernel
theorem d_X_exchanges_10 : decode b_X_exchanges 10 = .ok (.istore 4, 2) := by decide +kernel
theorem d_X_exchanges_12 : decode b_X_exchanges 12 = .ok (.iload 4, 2) := by decide +kernel
theorem d_X_exchanges_14 : decode b_X_exchanges 14 = .ok (.aload_n 0, 1) := by decide +kernel
theorem d_X_exchanges_15 : decode b_X_exchanges 15 = .ok (.getfield 16, 3) := by decide +kernel
theorem d_X_exchanges_18 : decode b_X_exchanges 18 = .ok (.if_icmp .ge 33, 3) := by decide +kernel
theorem d_X_exchanges_21 : decode b_X_exchanges 21 = .ok (.iload_n 2, 1) := by decide +kernel
theorem d_X_exchanges_22 : decode b_X_exchanges 22 = .ok (.iload 4, 2) := by decide +kernel
theorem d_X_exchanges_24 : decode b_X_exchanges 24 = .ok (.ishr, 1) := by decide +kernel
theorem d_X_exchanges_25 : decode b_X_exchanges 25 = .ok (.iconst 1, 1) := by decide +kernel
theorem d_X_exchanges_26 : decode b_X_exchanges 26 = .ok (.iand, 1) := by decide +kernel
theorem d_X_exchanges_27 : decode b_X_exchanges 27 = .ok (.iconst 1, 1) := by decide +kernel
theorem d_X_exchanges_28 : decode b_X_exchanges 28 = .ok (.if_icmp .ne 6, 3) := by decide +kernel
theorem d_X_exchanges_31 : decode b_X_exchanges 31 = .ok (.goto 14, 3) := by decide +kernel
theorem d_X_exchanges_34 : decode b_X_exchanges 34 = .ok (.aload_n 1, 1) := by decide +kernel
theorem d_X_exchanges_35 : decode b_X_exchanges 35 = .ok (.iload 4, 2) := by decide +kernel
theorem d_X_exchanges_37 : decode b_X_exchanges 37 = .ok (.iload_n 2, 1) := by decide +kernel
theorem d_X_exchanges_38 : decode b_X_exchanges 38 = .ok (.invokevirtual 48, 3) := by decide +kernel
theorem d_X_exchanges_41 : decode b_X_exchanges 41 = .ok (.istore_n 2, 1) := by decide +kernel
theorem d_X_exchanges_42 : decode b_X_exchanges 42 = .ok (.iinc 3 1, 3) := by decide +kernel
theorem d_X_exchanges_45 : decode b_X_exchanges 45 = .ok (.iinc 4 1, 3) := by decide +kernel
theorem d_X_exchanges_48 : decode b_X_exchanges 48 = .ok (.goto (-36), 3) := by decide +kernel
theorem d_X_exchanges_51 : decode b_X_exchanges 51 = .ok (.aload_n 0, 1) := by decide +kernel
theorem d_X_exchanges_52 : decode b_X_exchanges 52 = .ok (.getfield 16, 3) := by decide +kernel
theorem d_X_exchanges_55 : decode b_X_exchanges 55 = .ok (.iload_n 3, 1) := by decide +kernel
theorem d_X_exchanges_56 : decode b_X_exchanges 56 = .ok (.isub, 1) := by decide +kernel
theorem d_X_exchanges_57 : decode b_X_exchanges 57 = .ok (.ireturn, 1) := by decide +kernel
theorem d_X_divisor_0 : decode b_X_divisor 0 = .ok (.iload_n 1, 1) := by decide +kernel
theorem d_X_divisor_1 : decode b_X_divisor 1 = .ok (.ifCond .ne 7, 3) := by decide +kernel
theorem d_X_divisor_4 : decode b_X_divisor 4 = .ok (.iload_n 0, 1) := by decide +kernel
theorem d_X_divisor_5 : decode b_X_divisor 5 = .ok (.goto 10, 3) := by decide +kernel
theorem d_X_divisor_8 : decode b_X_divisor 8 = .ok (.iload_n 1, 1) := by decide +kernel
theorem d_X_divisor_9 : decode b_X_divisor 9 = .ok (.iload_n 0, 1) := by decide +kernel
theorem d_X_divisor_10 : decode b_X_divisor 10 = .ok (.iload_n 1, 1) := by decide +kernel
theorem d_X_divisor_11 : decode b_X_divisor 11 = .ok (.irem, 1) := by decide +kernel
theorem d_X_divisor_12 : decode b_X_divisor 12 = .ok (.invokestatic 52, 3) := by decide +kernel
theorem d_X_divisor_15 : decode b_X_divisor 15 = .ok (.ireturn, 1) := by decide +kernel
theorem d_X_turns_0 : decode b_X_turns 0 = .ok (.aload_n 0, 1) := by decide +kernel
theorem d_X_turns_1 : decode b_X_turns 1 = .ok (.invokevirtual 34, 3) := by decide +kernel
theorem d_X_turns_4 : decode b_X_turns 4 = .ok (.astore_n 1, 1) := by decide +kernel
theorem d_X_turns_5 : decode b_X_turns 5 = .ok (.iconst 0, 1) := by decide +kernel
theorem d_X_turns_6 : decode b_X_turns 6 = .ok (.istore_n 2, 1) := by decide +kernel
theorem d_X_turns_7 : decode b_X_turns 7 = .ok (.iconst 1, 1) := by decide +kernel
theorem d_X_turns_8 : decode b_X_turns 8 = .ok (.istore_n 3, 1) := by decide +kernel
theorem d_X_turns_9 : decode b_X_turns 9 = .ok (.iconst 0, 1) := by decide +kernel
theorem d_X_turns_10 : decode b_X_turns 10 = .ok (.istore 4, 2) := by decide +kernel
theorem d_X_turns_12 : decode b_X_turns 12 = .ok (.iload 4, 2) := by decide +kernel
theorem d_X_turns_14 : decode b_X_turns 14 = .ok (.aload_n 0, 1) := by decide +kernel
theorem d_X_turns_15 : decode b_X_turns 15 = .ok (.getfield 16, 3) := by decide +kernel
theorem d_X_turns_18 : decode b_X_turns 18 = .ok (.if_icmp .ge 58, 3) := by decide +kernel
theorem d_X_turns_21 : decode b_X_turns 21 = .ok (.iload_n 2, 1) := by decide +kernel
theorem d_X_turns_22 : decode b_X_turns 22 = .ok (.iload 4, 2) := by decide +kernel
theorem d_X_turns_24 : decode b_X_turns 24 = .ok (.ishr, 1) := by decide +kernel
theorem d_X_turns_25 : decode b_X_turns 25 = .ok (.iconst 1, 1) := by decide +kernel
theorem d_X_turns_26 : decode b_X_turns 26 = .ok (.iand, 1) := by decide +kernel
theorem d_X_turns_27 : decode b_X_turns 27 = .ok (.iconst 1, 1) := by decide +kernel
theorem d_X_turns_28 : decode b_X_turns 28 = .ok (.if_icmp .ne 6, 3) := by decide +kernel
theorem d_X_turns_31 : decode b_X_turns 31 = .ok (.goto 39, 3) := by decide +kernel
theorem d_X_turns_34 : decode b_X_turns 34 = .ok (.aload_n 1, 1) := by decide +kernel
theorem d_X_turns_35 : decode b_X_turns 35 = .ok (.iload 4, 2) := by decide +kernel
theorem d_X_turns_37 : decode b_X_turns 37 = .ok (.iload_n 2, 1) := by decide +kernel
theorem d_X_turns_38 : decode b_X_turns 38 = .ok (.invokevirtual 48, 3) := by decide +kernel
theorem d_X_turns_41 : decode b_X_turns 41 = .ok (.istore 5, 2) := by decide +kernel
theorem d_X_turns_43 : decode b_X_turns 43 = .ok (.iload 5, 2) := by decide +kernel
theorem d_X_turns_45 : decode b_X_turns 45 = .ok (.invokestatic 55, 3) := by decide +kernel
theorem d_X_turns_48 : decode b_X_turns 48 = .ok (.iload_n 2, 1) := by decide +kernel
theorem d_X_turns_49 : decode b_X_turns 49 = .ok (.invokestatic 55, 3) := by decide +kernel
theorem d_X_turns_52 : decode b_X_turns 52 = .ok (.isub, 1) := by decide +kernel
theorem d_X_turns_53 : decode b_X_turns 53 = .ok (.istore 6, 2) := by decide +kernel
theorem d_X_turns_55 : decode b_X_turns 55 = .ok (.iload_n 3, 1) := by decide +kernel
theorem d_X_turns_56 : decode b_X_turns 56 = .ok (.iload_n 3, 1) := by decide +kernel
theorem d_X_turns_57 : decode b_X_turns 57 = .ok (.iload 6, 2) := by decide +kernel
theorem d_X_turns_59 : decode b_X_turns 59 = .ok (.invokestatic 52, 3) := by decide +kernel
theorem d_X_turns_62 : decode b_X_turns 62 = .ok (.idiv, 1) := by decide +kernel
theorem d_X_turns_63 : decode b_X_turns 63 = .ok (.iload 6, 2) := by decide +kernel
theorem d_X_turns_65 : decode b_X_turns 65 = .ok (.imul, 1) := by decide +kernel
theorem d_X_turns_66 : decode b_X_turns 66 = .ok (.istore_n 3, 1) := by decide +kernel
theorem d_X_turns_67 : decode b_X_turns 67 = .ok (.iload 5, 2) := by decide +kernel
theorem d_X_turns_69 : decode b_X_turns 69 = .ok (.istore_n 2, 1) := by decide +kernel
theorem d_X_turns_70 : decode b_X_turns 70 = .ok (.iinc 4 1, 3) := by decide +kernel
theorem d_X_turns_73 : decode b_X_turns 73 = .ok (.goto (-61), 3) := by decide +kernel
theorem d_X_turns_76 : decode b_X_turns 76 = .ok (.iload_n 3, 1) := by decide +kernel
theorem d_X_turns_77 : decode b_X_turns 77 = .ok (.ireturn, 1) := by decide +kernel
theorem d_X_longest_0 : decode b_X_longest 0 = .ok (.aload_n 0, 1) := by decide +kernel
theorem d_X_longest_1 : decode b_X_longest 1 = .ok (.invokevirtual 34, 3) := by decide +kernel
theorem d_X_longest_4 : decode b_X_longest 4 = .ok (.astore_n 1, 1) := by decide +kernel
theorem d_X_longest_5 : decode b_X_longest 5 = .ok (.iconst 0, 1) := by decide +kernel
theorem d_X_longest_6 : decode b_X_longest 6 = .ok (.istore_n 2, 1) := by decide +kernel
theorem d_X_longest_7 : decode b_X_longest 7 = .ok (.iconst 0, 1) := by decide +kernel
theorem d_X_longest_8 : decode b_X_longest 8 = .ok (.istore_n 3, 1) := by decide +kernel
theorem d_X_longest_9 : decode b_X_longest 9 = .ok (.iload_n 3, 1) := by decide +kernel
theorem d_X_longest_10 : decode b_X_longest 10 = .ok (.aload_n 0, 1) := by decide +kernel
theorem d_X_longest_11 : decode b_X_longest 11 = .ok (.getfield 16, 3) := by decide +kernel
theorem d_X_longest_14 : decode b_X_longest 14 = .ok (.if_icmp .ge 84, 3) := by decide +kernel
theorem d_X_longest_17 : decode b_X_longest 17 = .ok (.aload_n 1, 1) := by decide +kernel
theorem d_X_longest_18 : decode b_X_longest 18 = .ok (.iload_n 3, 1) := by decide +kernel
theorem d_X_longest_19 : decode b_X_longest 19 = .ok (.invokevirtual 45, 3) := by decide +kernel
theorem d_X_longest_22 : decode b_X_longest 22 = .ok (.istore 4, 2) := by decide +kernel
theorem d_X_longest_24 : decode b_X_longest 24 = .ok (.iconst 0, 1) := by decide +kernel
theorem d_X_longest_25 : decode b_X_longest 25 = .ok (.istore 5, 2) := by decide +kernel
theorem d_X_longest_27 : decode b_X_longest 27 = .ok (.iload_n 2, 1) := by decide +kernel
theorem d_X_longest_28 : decode b_X_longest 28 = .ok (.istore 6, 2) := by decide +kernel
theorem d_X_longest_30 : decode b_X_longest 30 = .ok (.iload 5, 2) := by decide +kernel
theorem d_X_longest_32 : decode b_X_longest 32 = .ok (.iload 6, 2) := by decide +kernel
theorem d_X_longest_34 : decode b_X_longest 34 = .ok (.if_icmp .ge 40, 3) := by decide +kernel
theorem d_X_longest_37 : decode b_X_longest 37 = .ok (.iload 5, 2) := by decide +kernel
theorem d_X_longest_39 : decode b_X_longest 39 = .ok (.iload 6, 2) := by decide +kernel
theorem d_X_longest_41 : decode b_X_longest 41 = .ok (.iadd, 1) := by decide +kernel
theorem d_X_longest_42 : decode b_X_longest 42 = .ok (.iconst 2, 1) := by decide +kernel
theorem d_X_longest_43 : decode b_X_longest 43 = .ok (.idiv, 1) := by decide +kernel
theorem d_X_longest_44 : decode b_X_longest 44 = .ok (.istore 7, 2) := by decide +kernel
theorem d_X_longest_46 : decode b_X_longest 46 = .ok (.aload_n 0, 1) := by decide +kernel
theorem d_X_longest_47 : decode b_X_longest 47 = .ok (.getfield 13, 3) := by decide +kernel
theorem d_X_longest_50 : decode b_X_longest 50 = .ok (.iload 7, 2) := by decide +kernel
theorem d_X_longest_52 : decode b_X_longest 52 = .ok (.iaload, 1) := by decide +kernel
theorem d_X_longest_53 : decode b_X_longest 53 = .ok (.iload 4, 2) := by decide +kernel
theorem d_X_longest_55 : decode b_X_longest 55 = .ok (.if_icmp .ge 12, 3) := by decide +kernel
theorem d_X_longest_58 : decode b_X_longest 58 = .ok (.iload 7, 2) := by decide +kernel
theorem d_X_longest_60 : decode b_X_longest 60 = .ok (.iconst 1, 1) := by decide +kernel
theorem d_X_longest_61 : decode b_X_longest 61 = .ok (.iadd, 1) := by decide +kernel
theorem d_X_longest_62 : decode b_X_longest 62 = .ok (.istore 5, 2) := by decide +kernel
theorem d_X_longest_64 : decode b_X_longest 64 = .ok (.goto 7, 3) := by decide +kernel
theorem d_X_longest_67 : decode b_X_longest 67 = .ok (.iload 7, 2) := by decide +kernel
theorem d_X_longest_69 : decode b_X_longest 69 = .ok (.istore 6, 2) := by decide +kernel
theorem d_X_longest_71 : decode b_X_longest 71 = .ok (.goto (-41), 3) := by decide +kernel
theorem d_X_longest_74 : decode b_X_longest 74 = .ok (.aload_n 0, 1) := by decide +kernel
theorem d_X_longest_75 : decode b_X_longest 75 = .ok (.getfield 13, 3) := by decide +kernel
theorem d_X_longest_78 : decode b_X_longest 78 = .ok (.iload 5, 2) := by decide +kernel
theorem d_X_longest_80 : decode b_X_longest 80 = .ok (.iload 4, 2) := by decide +kernel
theorem d_X_longest_82 : decode b_X_longest 82 = .ok (.iastore, 1) := by decide +kernel
theorem d_X_longest_83 : decode b_X_longest 83 = .ok (.iload 5, 2) := by decide +kernel
theorem d_X_longest_85 : decode b_X_longest 85 = .ok (.iload_n 2, 1) := by decide +kernel
theorem d_X_longest_86 : decode b_X_longest 86 = .ok (.if_icmp .ne 6, 3) := by decide +kernel
theorem d_X_longest_89 : decode b_X_longest 89 = .ok (.iinc 2 1, 3) := by decide +kernel
theorem d_X_longest_92 : decode b_X_longest 92 = .ok (.iinc 3 1, 3) := by decide +kernel
theorem d_X_longest_95 : decode b_X_longest 95 = .ok (.goto (-86), 3) := by decide +kernel
theorem d_X_longest_98 : decode b_X_longest 98 = .ok (.iload_n 2, 1) := by decide +kernel
theorem d_X_longest_99 : decode b_X_longest 99 = .ok (.ireturn, 1) := by decide +kernel
theorem d_X_powers_0 : decode b_X_powers 0 = .ok (.aload_n 0, 1) := by decide +kernel
theorem d_X_powers_1 : decode b_X_powers 1 = .ok (.getfield 16, 3) := by decide +kernel
theorem d_X_powers_4 : decode b_X_powers 4 = .ok (.invokestatic 60, 3) := by decide +kernel
theorem d_X_powers_7 : decode b_X_powers 7 = .ok (.astore_n 2, 1) := by decide +kernel
theorem d_X_powers_8 : decode b_X_powers 8 = .ok (.aload_n 0, 1) := by decide +kernel
theorem d_X_powers_9 : decode b_X_powers 9 = .ok (.invokevirtual 34, 3) := by decide +kernel
theorem d_X_powers_12 : decode b_X_powers 12 = .ok (.astore_n 3, 1) := by decide +kernel
theorem d_X_powers_13 : decode b_X_powers 13 = .ok (.iload_n 1, 1) := by decide +kernel
theorem d_X_powers_14 : decode b_X_powers 14 = .ok (.sipush 255, 3) := by decide +kernel
theorem d_X_powers_17 : decode b_X_powers 17 = .ok (.iand, 1) := by decide +kernel
theorem d_X_powers_18 : decode b_X_powers 18 = .ok (.istore 4, 2) := by decide +kernel
theorem d_X_powers_20 : decode b_X_powers 20 = .ok (.iload 4, 2) := by decide +kernel
theorem d_X_powers_22 : decode b_X_powers 22 = .ok (.ifCond .eq 32, 3) := by decide +kernel
theorem d_X_powers_25 : decode b_X_powers 25 = .ok (.iload 4, 2) := by decide +kernel
theorem d_X_powers_27 : decode b_X_powers 27 = .ok (.iconst 1, 1) := by decide +kernel
theorem d_X_powers_28 : decode b_X_powers 28 = .ok (.iand, 1) := by decide +kernel
theorem d_X_powers_29 : decode b_X_powers 29 = .ok (.iconst 1, 1) := by decide +kernel
theorem d_X_powers_30 : decode b_X_powers 30 = .ok (.if_icmp .ne 9, 3) := by decide +kernel
theorem d_X_powers_33 : decode b_X_powers 33 = .ok (.aload_n 2, 1) := by decide +kernel
theorem d_X_powers_34 : decode b_X_powers 34 = .ok (.aload_n 3, 1) := by decide +kernel
theorem d_X_powers_35 : decode b_X_powers 35 = .ok (.invokevirtual 64, 3) := by decide +kernel
theorem d_X_powers_38 : decode b_X_powers 38 = .ok (.astore_n 2, 1) := by decide +kernel
theorem d_X_powers_39 : decode b_X_powers 39 = .ok (.aload_n 3, 1) := by decide +kernel
theorem d_X_powers_40 : decode b_X_powers 40 = .ok (.aload_n 3, 1) := by decide +kernel
theorem d_X_powers_41 : decode b_X_powers 41 = .ok (.invokevirtual 64, 3) := by decide +kernel
theorem d_X_powers_44 : decode b_X_powers 44 = .ok (.astore_n 3, 1) := by decide +kernel
theorem d_X_powers_45 : decode b_X_powers 45 = .ok (.iload 4, 2) := by decide +kernel
theorem d_X_powers_47 : decode b_X_powers 47 = .ok (.iconst 1, 1) := by decide +kernel
theorem d_X_powers_48 : decode b_X_powers 48 = .ok (.ishr, 1) := by decide +kernel
theorem d_X_powers_49 : decode b_X_powers 49 = .ok (.istore 4, 2) := by decide +kernel
theorem d_X_powers_51 : decode b_X_powers 51 = .ok (.goto (-31), 3) := by decide +kernel
theorem d_X_powers_54 : decode b_X_powers 54 = .ok (.aload_n 2, 1) := by decide +kernel
theorem d_X_powers_55 : decode b_X_powers 55 = .ok (.invokevirtual 68, 3) := by decide +kernel
theorem d_X_powers_58 : decode b_X_powers 58 = .ok (.ireturn, 1) := by decide +kernel
theorem d_M_size_0 : decode b_M_size 0 = .ok (.aload_n 0, 1) := by decide +kernel
theorem d_M_size_1 : decode b_M_size 1 = .ok (.iconst 1, 1) := by decide +kernel
theorem d_M_size_2 : decode b_M_size 2 = .ok (.iload_n 1, 1) := by decide +kernel
theorem d_M_size_3 : decode b_M_size 3 = .ok (.ldc 1, 2) := by decide +kernel
theorem d_M_size_5 : decode b_M_size 5 = .ok (.iand, 1) := by decide +kernel
theorem d_M_size_6 : decode b_M_size 6 = .ok (.bipush 7, 2) := by decide +kernel
theorem d_M_size_8 : decode b_M_size 8 = .ok (.irem, 1) := by decide +kernel
theorem d_M_size_9 : decode b_M_size 9 = .ok (.iadd, 1) := by decide +kernel
theorem d_M_size_10 : decode b_M_size 10 = .ok (.putfield 2, 3) := by decide +kernel
theorem d_M_size_13 : decode b_M_size 13 = .ok (.iconst 0, 1) := by decide +kernel
theorem d_M_size_14 : decode b_M_size 14 = .ok (.istore_n 2, 1) := by decide +kernel
theorem d_M_size_15 : decode b_M_size 15 = .ok (.iload_n 2, 1) := by decide +kernel
theorem d_M_size_16 : decode b_M_size 16 = .ok (.bipush 8, 2) := by decide +kernel
theorem d_M_size_18 : decode b_M_size 18 = .ok (.if_icmp .ge 16, 3) := by decide +kernel
theorem d_M_size_21 : decode b_M_size 21 = .ok (.aload_n 0, 1) := by decide +kernel
theorem d_M_size_22 : decode b_M_size 22 = .ok (.getfield 8, 3) := by decide +kernel
theorem d_M_size_25 : decode b_M_size 25 = .ok (.iload_n 2, 1) := by decide +kernel
theorem d_M_size_26 : decode b_M_size 26 = .ok (.iload_n 2, 1) := by decide +kernel
theorem d_M_size_27 : decode b_M_size 27 = .ok (.iastore, 1) := by decide +kernel
theorem d_M_size_28 : decode b_M_size 28 = .ok (.iinc 2 1, 3) := by decide +kernel
theorem d_M_size_31 : decode b_M_size 31 = .ok (.goto (-16), 3) := by decide +kernel
theorem d_M_size_34 : decode b_M_size 34 = .ok (.return_, 1) := by decide +kernel
theorem d_M_init_0 : decode b_M_init 0 = .ok (.aload_n 0, 1) := by decide +kernel
theorem d_M_init_1 : decode b_M_init 1 = .ok (.invokespecial 12, 3) := by decide +kernel
theorem d_M_init_4 : decode b_M_init 4 = .ok (.aload_n 0, 1) := by decide +kernel
theorem d_M_init_5 : decode b_M_init 5 = .ok (.iconst 4, 1) := by decide +kernel
theorem d_M_init_6 : decode b_M_init 6 = .ok (.putfield 2, 3) := by decide +kernel
theorem d_M_init_9 : decode b_M_init 9 = .ok (.aload_n 0, 1) := by decide +kernel
theorem d_M_init_10 : decode b_M_init 10 = .ok (.bipush 8, 2) := by decide +kernel
theorem d_M_init_12 : decode b_M_init 12 = .ok (.newarray .int, 2) := by decide +kernel
theorem d_M_init_14 : decode b_M_init 14 = .ok (.putfield 8, 3) := by decide +kernel
theorem d_M_init_17 : decode b_M_init 17 = .ok (.aload_n 0, 1) := by decide +kernel
theorem d_M_init_18 : decode b_M_init 18 = .ok (.bipush 8, 2) := by decide +kernel
theorem d_M_init_20 : decode b_M_init 20 = .ok (.newarray .int, 2) := by decide +kernel
theorem d_M_init_22 : decode b_M_init 22 = .ok (.putfield 18, 3) := by decide +kernel
theorem d_M_init_25 : decode b_M_init 25 = .ok (.aload_n 0, 1) := by decide +kernel
theorem d_M_init_26 : decode b_M_init 26 = .ok (.bipush 8, 2) := by decide +kernel
theorem d_M_init_28 : decode b_M_init 28 = .ok (.newarray .int, 2) := by decide +kernel
theorem d_M_init_30 : decode b_M_init 30 = .ok (.putfield 21, 3) := by decide +kernel
theorem d_M_init_33 : decode b_M_init 33 = .ok (.aload_n 0, 1) := by decide +kernel
theorem d_M_init_34 : decode b_M_init 34 = .ok (.iconst 3, 1) := by decide +kernel
theorem d_M_init_35 : decode b_M_init 35 = .ok (.invokevirtual 24, 3) := by decide +kernel
theorem d_M_init_38 : decode b_M_init 38 = .ok (.return_, 1) := by decide +kernel
theorem d_M_orders_0 : decode b_M_orders 0 = .ok (.iconst 1, 1) := by decide +kernel
theorem d_M_orders_1 : decode b_M_orders 1 = .ok (.istore_n 1, 1) := by decide +kernel
theorem d_M_orders_2 : decode b_M_orders 2 = .ok (.iconst 2, 1) := by decide +kernel
theorem d_M_orders_3 : decode b_M_orders 3 = .ok (.istore_n 2, 1) := by decide +kernel
theorem d_M_orders_4 : decode b_M_orders 4 = .ok (.iload_n 2, 1) := by decide +kernel
theorem d_M_orders_5 : decode b_M_orders 5 = .ok (.aload_n 0, 1) := by decide +kernel
theorem d_M_orders_6 : decode b_M_orders 6 = .ok (.getfield 2, 3) := by decide +kernel
theorem d_M_orders_9 : decode b_M_orders 9 = .ok (.if_icmp .gt 13, 3) := by decide +kernel
theorem d_M_orders_12 : decode b_M_orders 12 = .ok (.iload_n 1, 1) := by decide +kernel
theorem d_M_orders_13 : decode b_M_orders 13 = .ok (.iload_n 2, 1) := by decide +kernel
theorem d_M_orders_14 : decode b_M_orders 14 = .ok (.imul, 1) := by decide +kernel
theorem d_M_orders_15 : decode b_M_orders 15 = .ok (.istore_n 1, 1) := by decide +kernel
theorem d_M_orders_16 : decode b_M_orders 16 = .ok (.iinc 2 1, 3) := by decide +kernel
theorem d_M_orders_19 : decode b_M_orders 19 = .ok (.goto (-15), 3) := by decide +kernel
theorem d_M_orders_22 : decode b_M_orders 22 = .ok (.iload_n 1, 1) := by decide +kernel
theorem d_M_orders_23 : decode b_M_orders 23 = .ok (.ireturn, 1) := by decide +kernel
theorem d_M_swap_0 : decode b_M_swap 0 = .ok (.iload_n 1, 1) := by decide +kernel
theorem d_M_swap_1 : decode b_M_swap 1 = .ok (.ldc 1, 2) := by decide +kernel
theorem d_M_swap_3 : decode b_M_swap 3 = .ok (.iand, 1) := by decide +kernel
theorem d_M_swap_4 : decode b_M_swap 4 = .ok (.aload_n 0, 1) := by decide +kernel
theorem d_M_swap_5 : decode b_M_swap 5 = .ok (.getfield 2, 3) := by decide +kernel
theorem d_M_swap_8 : decode b_M_swap 8 = .ok (.irem, 1) := by decide +kernel
theorem d_M_swap_9 : decode b_M_swap 9 = .ok (.istore_n 3, 1) := by decide +kernel
theorem d_M_swap_10 : decode b_M_swap 10 = .ok (.iload_n 2, 1) := by decide +kernel
theorem d_M_swap_11 : decode b_M_swap 11 = .ok (.ldc 1, 2) := by decide +kernel
theorem d_M_swap_13 : decode b_M_swap 13 = .ok (.iand, 1) := by decide +kernel
theorem d_M_swap_14 : decode b_M_swap 14 = .ok (.aload_n 0, 1) := by decide +kernel
theorem d_M_swap_15 : decode b_M_swap 15 = .ok (.getfield 2, 3) := by decide +kernel
theorem d_M_swap_18 : decode b_M_swap 18 = .ok (.irem, 1) := by decide +kernel
theorem d_M_swap_19 : decode b_M_swap 19 = .ok (.istore 4, 2) := by decide +kernel
theorem d_M_swap_21 : decode b_M_swap 21 = .ok (.aload_n 0, 1) := by decide +kernel
theorem d_M_swap_22 : decode b_M_swap 22 = .ok (.getfield 8, 3) := by decide +kernel
theorem d_M_swap_25 : decode b_M_swap 25 = .ok (.iload_n 3, 1) := by decide +kernel
theorem d_M_swap_26 : decode b_M_swap 26 = .ok (.iaload, 1) := by decide +kernel
theorem d_M_swap_27 : decode b_M_swap 27 = .ok (.istore 5, 2) := by decide +kernel
theorem d_M_swap_29 : decode b_M_swap 29 = .ok (.aload_n 0, 1) := by decide +kernel
theorem d_M_swap_30 : decode b_M_swap 30 = .ok (.getfield 8, 3) := by decide +kernel
theorem d_M_swap_33 : decode b_M_swap 33 = .ok (.iload_n 3, 1) := by decide +kernel
theorem d_M_swap_34 : decode b_M_swap 34 = .ok (.aload_n 0, 1) := by decide +kernel
theorem d_M_swap_35 : decode b_M_swap 35 = .ok (.getfield 8, 3) := by decide +kernel
theorem d_M_swap_38 : decode b_M_swap 38 = .ok (.iload 4, 2) := by decide +kernel
theorem d_M_swap_40 : decode b_M_swap 40 = .ok (.iaload, 1) := by decide +kernel
theorem d_M_swap_41 : decode b_M_swap 41 = .ok (.iastore, 1) := by decide +kernel
theorem d_M_swap_42 : decode b_M_swap 42 = .ok (.aload_n 0, 1) := by decide +kernel
theorem d_M_swap_43 : decode b_M_swap 43 = .ok (.getfield 8, 3) := by decide +kernel
theorem d_M_swap_46 : decode b_M_swap 46 = .ok (.iload 4, 2) := by decide +kernel
theorem d_M_swap_48 : decode b_M_swap 48 = .ok (.iload 5, 2) := by decide +kernel
theorem d_M_swap_50 : decode b_M_swap 50 = .ok (.iastore, 1) := by decide +kernel
theorem d_M_swap_51 : decode b_M_swap 51 = .ok (.iload_n 3, 1) := by decide +kernel
theorem d_M_swap_52 : decode b_M_swap 52 = .ok (.iload 4, 2) := by decide +kernel
theorem d_M_swap_54 : decode b_M_swap 54 = .ok (.if_icmp .eq 7, 3) := by decide +kernel
theorem d_M_swap_57 : decode b_M_swap 57 = .ok (.iconst 1, 1) := by decide +kernel
theorem d_M_swap_58 : decode b_M_swap 58 = .ok (.goto 4, 3) := by decide +kernel
theorem d_M_swap_61 : decode b_M_swap 61 = .ok (.iconst 0, 1) := by decide +kernel
theorem d_M_swap_62 : decode b_M_swap 62 = .ok (.ireturn, 1) := by decide +kernel
theorem d_M_next_0 : decode b_M_next 0 = .ok (.aload_n 0, 1) := by decide +kernel
theorem d_M_next_1 : decode b_M_next 1 = .ok (.getfield 2, 3) := by decide +kernel
theorem d_M_next_4 : decode b_M_next 4 = .ok (.iconst 2, 1) := by decide +kernel
theorem d_M_next_5 : decode b_M_next 5 = .ok (.isub, 1) := by decide +kernel
theorem d_M_next_6 : decode b_M_next 6 = .ok (.istore_n 2, 1) := by decide +kernel
theorem d_M_next_7 : decode b_M_next 7 = .ok (.iload_n 2, 1) := by decide +kernel
theorem d_M_next_8 : decode b_M_next 8 = .ok (.ifCond .lt 21, 3) := by decide +kernel
theorem d_M_next_11 : decode b_M_next 11 = .ok (.aload_n 1, 1) := by decide +kernel
theorem d_M_next_12 : decode b_M_next 12 = .ok (.iload_n 2, 1) := by decide +kernel
theorem d_M_next_13 : decode b_M_next 13 = .ok (.iaload, 1) := by decide +kernel
theorem d_M_next_14 : decode b_M_next 14 = .ok (.aload_n 1, 1) := by decide +kernel
theorem d_M_next_15 : decode b_M_next 15 = .ok (.iload_n 2, 1) := by decide +kernel
theorem d_M_next_16 : decode b_M_next 16 = .ok (.iconst 1, 1) := by decide +kernel
theorem d_M_next_17 : decode b_M_next 17 = .ok (.iadd, 1) := by decide +kernel
theorem d_M_next_18 : decode b_M_next 18 = .ok (.iaload, 1) := by decide +kernel
theorem d_M_next_19 : decode b_M_next 19 = .ok (.if_icmp .le 10, 3) := by decide +kernel
theorem d_M_next_22 : decode b_M_next 22 = .ok (.iload_n 2, 1) := by decide +kernel
theorem d_M_next_23 : decode b_M_next 23 = .ok (.iconst 1, 1) := by decide +kernel
theorem d_M_next_24 : decode b_M_next 24 = .ok (.isub, 1) := by decide +kernel
theorem d_M_next_25 : decode b_M_next 25 = .ok (.istore_n 2, 1) := by decide +kernel
theorem d_M_next_26 : decode b_M_next 26 = .ok (.goto (-19), 3) := by decide +kernel
theorem d_M_next_29 : decode b_M_next 29 = .ok (.iload_n 2, 1) := by decide +kernel
theorem d_M_next_30 : decode b_M_next 30 = .ok (.ifCond .ge 25, 3) := by decide +kernel
theorem d_M_next_33 : decode b_M_next 33 = .ok (.iconst 0, 1) := by decide +kernel
theorem d_M_next_34 : decode b_M_next 34 = .ok (.istore_n 3, 1) := by decide +kernel
theorem d_M_next_35 : decode b_M_next 35 = .ok (.iload_n 3, 1) := by decide +kernel
theorem d_M_next_36 : decode b_M_next 36 = .ok (.aload_n 0, 1) := by decide +kernel
theorem d_M_next_37 : decode b_M_next 37 = .ok (.getfield 2, 3) := by decide +kernel
theorem d_M_next_40 : decode b_M_next 40 = .ok (.if_icmp .ge 13, 3) := by decide +kernel
theorem d_M_next_43 : decode b_M_next 43 = .ok (.aload_n 1, 1) := by decide +kernel
theorem d_M_next_44 : decode b_M_next 44 = .ok (.iload_n 3, 1) := by decide +kernel
theorem d_M_next_45 : decode b_M_next 45 = .ok (.iload_n 3, 1) := by decide +kernel
theorem d_M_next_46 : decode b_M_next 46 = .ok (.iastore, 1) := by decide +kernel
theorem d_M_next_47 : decode b_M_next 47 = .ok (.iinc 3 1, 3) := by decide +kernel
theorem d_M_next_50 : decode b_M_next 50 = .ok (.goto (-15), 3) := by decide +kernel
theorem d_M_next_53 : decode b_M_next 53 = .ok (.iconst 0, 1) := by decide +kernel
theorem d_M_next_54 : decode b_M_next 54 = .ok (.ireturn, 1) := by decide +kernel
theorem d_M_next_55 : decode b_M_next 55 = .ok (.aload_n 0, 1) := by decide +kernel
theorem d_M_next_56 : decode b_M_next 56 = .ok (.getfield 2, 3) := by decide +kernel
theorem d_M_next_59 : decode b_M_next 59 = .ok (.iconst 1, 1) := by decide +kernel
theorem d_M_next_60 : decode b_M_next 60 = .ok (.isub, 1) := by decide +kernel
theorem d_M_next_61 : decode b_M_next 61 = .ok (.istore_n 3, 1) := by decide +kernel
theorem d_M_next_62 : decode b_M_next 62 = .ok (.aload_n 1, 1) := by decide +kernel
theorem d_M_next_63 : decode b_M_next 63 = .ok (.iload_n 3, 1) := by decide +kernel
theorem d_M_next_64 : decode b_M_next 64 = .ok (.iaload, 1) := by decide +kernel
theorem d_M_next_65 : decode b_M_next 65 = .ok (.aload_n 1, 1) := by decide +kernel
theorem d_M_next_66 : decode b_M_next 66 = .ok (.iload_n 2, 1) := by decide +kernel
theorem d_M_next_67 : decode b_M_next 67 = .ok (.iaload, 1) := by decide +kernel
theorem d_M_next_68 : decode b_M_next 68 = .ok (.if_icmp .ge 10, 3) := by decide +kernel
theorem d_M_next_71 : decode b_M_next 71 = .ok (.iload_n 3, 1) := by decide +kernel
theorem d_M_next_72 : decode b_M_next 72 = .ok (.iconst 1, 1) := by decide +kernel
theorem d_M_next_73 : decode b_M_next 73 = .ok (.isub, 1) := by decide +kernel
theorem d_M_next_74 : decode b_M_next 74 = .ok (.istore_n 3, 1) := by decide +kernel
theorem d_M_next_75 : decode b_M_next 75 = .ok (.goto (-13), 3) := by decide +kernel
theorem d_M_next_78 : decode b_M_next 78 = .ok (.aload_n 1, 1) := by decide +kernel
theorem d_M_next_79 : decode b_M_next 79 = .ok (.iload_n 2, 1) := by decide +kernel
theorem d_M_next_80 : decode b_M_next 80 = .ok (.iaload, 1) := by decide +kernel
theorem d_M_next_81 : decode b_M_next 81 = .ok (.istore 4, 2) := by decide +kernel
theorem d_M_next_83 : decode b_M_next 83 = .ok (.aload_n 1, 1) := by decide +kernel
theorem d_M_next_84 : decode b_M_next 84 = .ok (.iload_n 2, 1) := by decide +kernel
theorem d_M_next_85 : decode b_M_next 85 = .ok (.aload_n 1, 1) := by decide +kernel
theorem d_M_next_86 : decode b_M_next 86 = .ok (.iload_n 3, 1) := by decide +kernel
theorem d_M_next_87 : decode b_M_next 87 = .ok (.iaload, 1) := by decide +kernel
theorem d_M_next_88 : decode b_M_next 88 = .ok (.iastore, 1) := by decide +kernel
theorem d_M_next_89 : decode b_M_next 89 = .ok (.aload_n 1, 1) := by decide +kernel
theorem d_M_next_90 : decode b_M_next 90 = .ok (.iload_n 3, 1) := by decide +kernel
theorem d_M_next_91 : decode b_M_next 91 = .ok (.iload 4, 2) := by decide +kernel
theorem d_M_next_93 : decode b_M_next 93 = .ok (.iastore, 1) := by decide +kernel
theorem d_M_next_94 : decode b_M_next 94 = .ok (.aload_n 0, 1) := by decide +kernel
theorem d_M_next_95 : decode b_M_next 95 = .ok (.getfield 2, 3) := by decide +kernel
theorem d_M_next_98 : decode b_M_next 98 = .ok (.iconst 1, 1) := by decide +kernel
theorem d_M_next_99 : decode b_M_next 99 = .ok (.isub, 1) := by decide +kernel
theorem d_M_next_100 : decode b_M_next 100 = .ok (.istore 5, 2) := by decide +kernel
theorem d_M_next_102 : decode b_M_next 102 = .ok (.iload_n 2, 1) := by decide +kernel
theorem d_M_next_103 : decode b_M_next 103 = .ok (.iconst 1, 1) := by decide +kernel
theorem d_M_next_104 : decode b_M_next 104 = .ok (.iadd, 1) := by decide +kernel
theorem d_M_next_105 : decode b_M_next 105 = .ok (.istore 6, 2) := by decide +kernel
theorem d_M_next_107 : decode b_M_next 107 = .ok (.iload 6, 2) := by decide +kernel
theorem d_M_next_109 : decode b_M_next 109 = .ok (.iload 5, 2) := by decide +kernel
theorem d_M_next_111 : decode b_M_next 111 = .ok (.if_icmp .ge 35, 3) := by decide +kernel
theorem d_M_next_114 : decode b_M_next 114 = .ok (.aload_n 1, 1) := by decide +kernel
theorem d_M_next_115 : decode b_M_next 115 = .ok (.iload 6, 2) := by decide +kernel
theorem d_M_next_117 : decode b_M_next 117 = .ok (.iaload, 1) := by decide +kernel
theorem d_M_next_118 : decode b_M_next 118 = .ok (.istore 4, 2) := by decide +kernel
theorem d_M_next_120 : decode b_M_next 120 = .ok (.aload_n 1, 1) := by decide +kernel
theorem d_M_next_121 : decode b_M_next 121 = .ok (.iload 6, 2) := by decide +kernel
theorem d_M_next_123 : decode b_M_next 123 = .ok (.aload_n 1, 1) := by decide +kernel
theorem d_M_next_124 : decode b_M_next 124 = .ok (.iload 5, 2) := by decide +kernel
theorem d_M_next_126 : decode b_M_next 126 = .ok (.iaload, 1) := by decide +kernel
theorem d_M_next_127 : decode b_M_next 127 = .ok (.iastore, 1) := by decide +kernel
theorem d_M_next_128 : decode b_M_next 128 = .ok (.aload_n 1, 1) := by decide +kernel
theorem d_M_next_129 : decode b_M_next 129 = .ok (.iload 5, 2) := by decide +kernel
theorem d_M_next_131 : decode b_M_next 131 = .ok (.iload 4, 2) := by decide +kernel
theorem d_M_next_133 : decode b_M_next 133 = .ok (.iastore, 1) := by decide +kernel
theorem d_M_next_134 : decode b_M_next 134 = .ok (.iload 5, 2) := by decide +kernel
theorem d_M_next_136 : decode b_M_next 136 = .ok (.iconst 1, 1) := by decide +kernel
theorem d_M_next_137 : decode b_M_next 137 = .ok (.isub, 1) := by decide +kernel
theorem d_M_next_138 : decode b_M_next 138 = .ok (.istore 5, 2) := by decide +kernel
theorem d_M_next_140 : decode b_M_next 140 = .ok (.iinc 6 1, 3) := by decide +kernel
theorem d_M_next_143 : decode b_M_next 143 = .ok (.goto (-36), 3) := by decide +kernel
theorem d_M_next_146 : decode b_M_next 146 = .ok (.iconst 1, 1) := by decide +kernel
theorem d_M_next_147 : decode b_M_next 147 = .ok (.ireturn, 1) := by decide +kernel
theorem d_M_rank_0 : decode b_M_rank 0 = .ok (.iconst 0, 1) := by decide +kernel
theorem d_M_rank_1 : decode b_M_rank 1 = .ok (.istore_n 1, 1) := by decide +kernel
theorem d_M_rank_2 : decode b_M_rank 2 = .ok (.iload_n 1, 1) := by decide +kernel
theorem d_M_rank_3 : decode b_M_rank 3 = .ok (.aload_n 0, 1) := by decide +kernel
theorem d_M_rank_4 : decode b_M_rank 4 = .ok (.getfield 2, 3) := by decide +kernel
theorem d_M_rank_7 : decode b_M_rank 7 = .ok (.if_icmp .ge 16, 3) := by decide +kernel
theorem d_M_rank_10 : decode b_M_rank 10 = .ok (.aload_n 0, 1) := by decide +kernel
theorem d_M_rank_11 : decode b_M_rank 11 = .ok (.getfield 18, 3) := by decide +kernel
theorem d_M_rank_14 : decode b_M_rank 14 = .ok (.iload_n 1, 1) := by decide +kernel
theorem d_M_rank_15 : decode b_M_rank 15 = .ok (.iload_n 1, 1) := by decide +kernel
theorem d_M_rank_16 : decode b_M_rank 16 = .ok (.iastore, 1) := by decide +kernel
theorem d_M_rank_17 : decode b_M_rank 17 = .ok (.iinc 1 1, 3) := by decide +kernel
theorem d_M_rank_20 : decode b_M_rank 20 = .ok (.goto (-18), 3) := by decide +kernel
theorem d_M_rank_23 : decode b_M_rank 23 = .ok (.iconst 0, 1) := by decide +kernel
theorem d_M_rank_24 : decode b_M_rank 24 = .ok (.istore_n 1, 1) := by decide +kernel
theorem d_M_rank_25 : decode b_M_rank 25 = .ok (.iconst 0, 1) := by decide +kernel
theorem d_M_rank_26 : decode b_M_rank 26 = .ok (.istore_n 2, 1) := by decide +kernel
theorem d_M_rank_27 : decode b_M_rank 27 = .ok (.iload_n 2, 1) := by decide +kernel
theorem d_M_rank_28 : decode b_M_rank 28 = .ok (.ifCond .ne 66, 3) := by decide +kernel
theorem d_M_rank_31 : decode b_M_rank 31 = .ok (.iconst 1, 1) := by decide +kernel
theorem d_M_rank_32 : decode b_M_rank 32 = .ok (.istore_n 2, 1) := by decide +kernel
theorem d_M_rank_33 : decode b_M_rank 33 = .ok (.iconst 0, 1) := by decide +kernel
theorem d_M_rank_34 : decode b_M_rank 34 = .ok (.istore_n 3, 1) := by decide +kernel
theorem d_M_rank_35 : decode b_M_rank 35 = .ok (.iload_n 3, 1) := by decide +kernel
theorem d_M_rank_36 : decode b_M_rank 36 = .ok (.aload_n 0, 1) := by decide +kernel
theorem d_M_rank_37 : decode b_M_rank 37 = .ok (.getfield 2, 3) := by decide +kernel
theorem d_M_rank_40 : decode b_M_rank 40 = .ok (.if_icmp .ge 34, 3) := by decide +kernel
theorem d_M_rank_43 : decode b_M_rank 43 = .ok (.iload_n 2, 1) := by decide +kernel
theorem d_M_rank_44 : decode b_M_rank 44 = .ok (.ifCond .eq 22, 3) := by decide +kernel
theorem d_M_rank_47 : decode b_M_rank 47 = .ok (.aload_n 0, 1) := by decide +kernel
theorem d_M_rank_48 : decode b_M_rank 48 = .ok (.getfield 18, 3) := by decide +kernel
theorem d_M_rank_51 : decode b_M_rank 51 = .ok (.iload_n 3, 1) := by decide +kernel
theorem d_M_rank_52 : decode b_M_rank 52 = .ok (.iaload, 1) := by decide +kernel
theorem d_M_rank_53 : decode b_M_rank 53 = .ok (.aload_n 0, 1) := by decide +kernel
theorem d_M_rank_54 : decode b_M_rank 54 = .ok (.getfield 8, 3) := by decide +kernel
theorem d_M_rank_57 : decode b_M_rank 57 = .ok (.iload_n 3, 1) := by decide +kernel
theorem d_M_rank_58 : decode b_M_rank 58 = .ok (.iaload, 1) := by decide +kernel
theorem d_M_rank_59 : decode b_M_rank 59 = .ok (.if_icmp .ne 7, 3) := by decide +kernel
theorem d_M_rank_62 : decode b_M_rank 62 = .ok (.iconst 1, 1) := by decide +kernel
theorem d_M_rank_63 : decode b_M_rank 63 = .ok (.goto 4, 3) := by decide +kernel
theorem d_M_rank_66 : decode b_M_rank 66 = .ok (.iconst 0, 1) := by decide +kernel
theorem d_M_rank_67 : decode b_M_rank 67 = .ok (.istore_n 2, 1) := by decide +kernel
theorem d_M_rank_68 : decode b_M_rank 68 = .ok (.iinc 3 1, 3) := by decide +kernel
theorem d_M_rank_71 : decode b_M_rank 71 = .ok (.goto (-36), 3) := by decide +kernel
theorem d_M_rank_74 : decode b_M_rank 74 = .ok (.iload_n 2, 1) := by decide +kernel
theorem d_M_rank_75 : decode b_M_rank 75 = .ok (.ifCond .ne (-48), 3) := by decide +kernel
theorem d_M_rank_78 : decode b_M_rank 78 = .ok (.aload_n 0, 1) := by decide +kernel
theorem d_M_rank_79 : decode b_M_rank 79 = .ok (.aload_n 0, 1) := by decide +kernel
theorem d_M_rank_80 : decode b_M_rank 80 = .ok (.getfield 18, 3) := by decide +kernel
theorem d_M_rank_83 : decode b_M_rank 83 = .ok (.invokevirtual 28, 3) := by decide +kernel
theorem d_M_rank_86 : decode b_M_rank 86 = .ok (.pop, 1) := by decide +kernel
theorem d_M_rank_87 : decode b_M_rank 87 = .ok (.iload_n 1, 1) := by decide +kernel
theorem d_M_rank_88 : decode b_M_rank 88 = .ok (.iconst 1, 1) := by decide +kernel
theorem d_M_rank_89 : decode b_M_rank 89 = .ok (.iadd, 1) := by decide +kernel
theorem d_M_rank_90 : decode b_M_rank 90 = .ok (.istore_n 1, 1) := by decide +kernel
theorem d_M_rank_91 : decode b_M_rank 91 = .ok (.goto (-64), 3) := by decide +kernel
theorem d_M_rank_94 : decode b_M_rank 94 = .ok (.iload_n 1, 1) := by decide +kernel
theorem d_M_rank_95 : decode b_M_rank 95 = .ok (.ireturn, 1) := by decide +kernel
theorem d_M_unrank_0 : decode b_M_unrank 0 = .ok (.iload_n 1, 1) := by decide +kernel
theorem d_M_unrank_1 : decode b_M_unrank 1 = .ok (.ldc 1, 2) := by decide +kernel
theorem d_M_unrank_3 : decode b_M_unrank 3 = .ok (.iand, 1) := by decide +kernel
theorem d_M_unrank_4 : decode b_M_unrank 4 = .ok (.aload_n 0, 1) := by decide +kernel
theorem d_M_unrank_5 : decode b_M_unrank 5 = .ok (.invokevirtual 32, 3) := by decide +kernel
theorem d_M_unrank_8 : decode b_M_unrank 8 = .ok (.irem, 1) := by decide +kernel
theorem d_M_unrank_9 : decode b_M_unrank 9 = .ok (.istore_n 2, 1) := by decide +kernel
theorem d_M_unrank_10 : decode b_M_unrank 10 = .ok (.iconst 0, 1) := by decide +kernel
theorem d_M_unrank_11 : decode b_M_unrank 11 = .ok (.istore_n 3, 1) := by decide +kernel
theorem d_M_unrank_12 : decode b_M_unrank 12 = .ok (.iload_n 3, 1) := by decide +kernel
theorem d_M_unrank_13 : decode b_M_unrank 13 = .ok (.aload_n 0, 1) := by decide +kernel
theorem d_M_unrank_14 : decode b_M_unrank 14 = .ok (.getfield 2, 3) := by decide +kernel
theorem d_M_unrank_17 : decode b_M_unrank 17 = .ok (.if_icmp .ge 16, 3) := by decide +kernel
theorem d_M_unrank_20 : decode b_M_unrank 20 = .ok (.aload_n 0, 1) := by decide +kernel
theorem d_M_unrank_21 : decode b_M_unrank 21 = .ok (.getfield 8, 3) := by decide +kernel
theorem d_M_unrank_24 : decode b_M_unrank 24 = .ok (.iload_n 3, 1) := by decide +kernel
theorem d_M_unrank_25 : decode b_M_unrank 25 = .ok (.iload_n 3, 1) := by decide +kernel
theorem d_M_unrank_26 : decode b_M_unrank 26 = .ok (.iastore, 1) := by decide +kernel
theorem d_M_unrank_27 : decode b_M_unrank 27 = .ok (.iinc 3 1, 3) := by decide +kernel
theorem d_M_unrank_30 : decode b_M_unrank 30 = .ok (.goto (-18), 3) := by decide +kernel
theorem d_M_unrank_33 : decode b_M_unrank 33 = .ok (.iconst 0, 1) := by decide +kernel
theorem d_M_unrank_34 : decode b_M_unrank 34 = .ok (.istore_n 3, 1) := by decide +kernel
theorem d_M_unrank_35 : decode b_M_unrank 35 = .ok (.iload_n 3, 1) := by decide +kernel
theorem d_M_unrank_36 : decode b_M_unrank 36 = .ok (.iload_n 2, 1) := by decide +kernel
theorem d_M_unrank_37 : decode b_M_unrank 37 = .ok (.if_icmp .ge 18, 3) := by decide +kernel
theorem d_M_unrank_40 : decode b_M_unrank 40 = .ok (.aload_n 0, 1) := by decide +kernel
theorem d_M_unrank_41 : decode b_M_unrank 41 = .ok (.aload_n 0, 1) := by decide +kernel
theorem d_M_unrank_42 : decode b_M_unrank 42 = .ok (.getfield 8, 3) := by decide +kernel
theorem d_M_unrank_45 : decode b_M_unrank 45 = .ok (.invokevirtual 28, 3) := by decide +kernel
theorem d_M_unrank_48 : decode b_M_unrank 48 = .ok (.pop, 1) := by decide +kernel
theorem d_M_unrank_49 : decode b_M_unrank 49 = .ok (.iinc 3 1, 3) := by decide +kernel
theorem d_M_unrank_52 : decode b_M_unrank 52 = .ok (.goto (-17), 3) := by decide +kernel
theorem d_M_unrank_55 : decode b_M_unrank 55 = .ok (.return_, 1) := by decide +kernel
theorem d_M_forward_0 : decode b_M_forward 0 = .ok (.aload_n 0, 1) := by decide +kernel
theorem d_M_forward_1 : decode b_M_forward 1 = .ok (.aload_n 0, 1) := by decide +kernel
theorem d_M_forward_2 : decode b_M_forward 2 = .ok (.getfield 8, 3) := by decide +kernel
theorem d_M_forward_5 : decode b_M_forward 5 = .ok (.invokevirtual 28, 3) := by decide +kernel
theorem d_M_forward_8 : decode b_M_forward 8 = .ok (.ireturn, 1) := by decide +kernel
theorem d_M_at_0 : decode b_M_at 0 = .ok (.aload_n 0, 1) := by decide +kernel
theorem d_M_at_1 : decode b_M_at 1 = .ok (.getfield 8, 3) := by decide +kernel
theorem d_M_at_4 : decode b_M_at 4 = .ok (.iload_n 1, 1) := by decide +kernel
theorem d_M_at_5 : decode b_M_at 5 = .ok (.ldc 1, 2) := by decide +kernel
theorem d_M_at_7 : decode b_M_at 7 = .ok (.iand, 1) := by decide +kernel
theorem d_M_at_8 : decode b_M_at 8 = .ok (.aload_n 0, 1) := by decide +kernel
end
section
/-! what each instruction is -/
theorem d_M_at_9 : decode b_M_at 9 = .ok (.getfield 2, 3) := by decide +kernel
theorem d_M_at_12 : decode b_M_at 12 = .ok (.irem, 1) := by decide +kernel
theorem d_M_at_13 : decode b_M_at 13 = .ok (.iaload, 1) := by decide +kernel
theorem d_M_at_14 : decode b_M_at 14 = .ok (.ireturn, 1) := by decide +kernel
theorem d_M_inversions_0 : decode b_M_inversions 0 = .ok (.iconst 0, 1) := by decide +kernel
theorem d_M_inversions_1 : decode b_M_inversions 1 = .ok (.istore_n 1, 1) := by decide +kernel
theorem d_M_inversions_2 : decode b_M_inversions 2 = .ok (.iconst 0, 1) := by decide +kernel
theorem d_M_inversions_3 : decode b_M_inversions 3 = .ok (.istore_n 2, 1) := by decide +kernel
theorem d_M_inversions_4 : decode b_M_inversions 4 = .ok (.iload_n 2, 1) := by decide +kernel
theorem d_M_inversions_5 : decode b_M_inversions 5 = .ok (.aload_n 0, 1) := by decide +kernel
theorem d_M_inversions_6 : decode b_M_inversions 6 = .ok (.getfield 2, 3) := by decide +kernel
theorem d_M_inversions_9 : decode b_M_inversions 9 = .ok (.if_icmp .ge 41, 3) := by decide +kernel
theorem d_M_inversions_12 : decode b_M_inversions 12 = .ok (.iconst 0, 1) := by decide +kernel
theorem d_M_inversions_13 : decode b_M_inversions 13 = .ok (.istore_n 3, 1) := by decide +kernel
theorem d_M_inversions_14 : decode b_M_inversions 14 = .ok (.iload_n 3, 1) := by decide +kernel
theorem d_M_inversions_15 : decode b_M_inversions 15 = .ok (.iload_n 2, 1) := by decide +kernel
theorem d_M_inversions_16 : decode b_M_inversions 16 = .ok (.if_icmp .ge 28, 3) := by decide +kernel
theorem d_M_inversions_19 : decode b_M_inversions 19 = .ok (.aload_n 0, 1) := by decide +kernel
theorem d_M_inversions_20 : decode b_M_inversions 20 = .ok (.getfield 8, 3) := by decide +kernel
theorem d_M_inversions_23 : decode b_M_inversions 23 = .ok (.iload_n 3, 1) := by decide +kernel
theorem d_M_inversions_24 : decode b_M_inversions 24 = .ok (.iaload, 1) := by decide +kernel
theorem d_M_inversions_25 : decode b_M_inversions 25 = .ok (.aload_n 0, 1) := by decide +kernel
theorem d_M_inversions_26 : decode b_M_inversions 26 = .ok (.getfield 8, 3) := by decide +kernel
theorem d_M_inversions_29 : decode b_M_inversions 29 = .ok (.iload_n 2, 1) := by decide +kernel
theorem d_M_inversions_30 : decode b_M_inversions 30 = .ok (.iaload, 1) := by decide +kernel
theorem d_M_inversions_31 : decode b_M_inversions 31 = .ok (.if_icmp .le 7, 3) := by decide +kernel
theorem d_M_inversions_34 : decode b_M_inversions 34 = .ok (.iload_n 1, 1) := by decide +kernel
theorem d_M_inversions_35 : decode b_M_inversions 35 = .ok (.iconst 1, 1) := by decide +kernel
theorem d_M_inversions_36 : decode b_M_inversions 36 = .ok (.iadd, 1) := by decide +kernel
theorem d_M_inversions_37 : decode b_M_inversions 37 = .ok (.istore_n 1, 1) := by decide +kernel
theorem d_M_inversions_38 : decode b_M_inversions 38 = .ok (.iinc 3 1, 3) := by decide +kernel
theorem d_M_inversions_41 : decode b_M_inversions 41 = .ok (.goto (-27), 3) := by decide +kernel
theorem d_M_inversions_44 : decode b_M_inversions 44 = .ok (.iinc 2 1, 3) := by decide +kernel
theorem d_M_inversions_47 : decode b_M_inversions 47 = .ok (.goto (-43), 3) := by decide +kernel
theorem d_M_inversions_50 : decode b_M_inversions 50 = .ok (.iload_n 1, 1) := by decide +kernel
theorem d_M_inversions_51 : decode b_M_inversions 51 = .ok (.ireturn, 1) := by decide +kernel
theorem d_M_exchanges_0 : decode b_M_exchanges 0 = .ok (.iconst 0, 1) := by decide +kernel
theorem d_M_exchanges_1 : decode b_M_exchanges 1 = .ok (.istore_n 1, 1) := by decide +kernel
theorem d_M_exchanges_2 : decode b_M_exchanges 2 = .ok (.iconst 0, 1) := by decide +kernel
theorem d_M_exchanges_3 : decode b_M_exchanges 3 = .ok (.istore_n 2, 1) := by decide +kernel
theorem d_M_exchanges_4 : decode b_M_exchanges 4 = .ok (.iload_n 2, 1) := by decide +kernel
theorem d_M_exchanges_5 : decode b_M_exchanges 5 = .ok (.aload_n 0, 1) := by decide +kernel
theorem d_M_exchanges_6 : decode b_M_exchanges 6 = .ok (.getfield 2, 3) := by decide +kernel
theorem d_M_exchanges_9 : decode b_M_exchanges 9 = .ok (.if_icmp .ge 61, 3) := by decide +kernel
theorem d_M_exchanges_12 : decode b_M_exchanges 12 = .ok (.iconst 1, 1) := by decide +kernel
theorem d_M_exchanges_13 : decode b_M_exchanges 13 = .ok (.istore_n 3, 1) := by decide +kernel
theorem d_M_exchanges_14 : decode b_M_exchanges 14 = .ok (.aload_n 0, 1) := by decide +kernel
theorem d_M_exchanges_15 : decode b_M_exchanges 15 = .ok (.getfield 8, 3) := by decide +kernel
theorem d_M_exchanges_18 : decode b_M_exchanges 18 = .ok (.iload_n 2, 1) := by decide +kernel
theorem d_M_exchanges_19 : decode b_M_exchanges 19 = .ok (.iaload, 1) := by decide +kernel
theorem d_M_exchanges_20 : decode b_M_exchanges 20 = .ok (.istore 4, 2) := by decide +kernel
theorem d_M_exchanges_22 : decode b_M_exchanges 22 = .ok (.iload 4, 2) := by decide +kernel
theorem d_M_exchanges_24 : decode b_M_exchanges 24 = .ok (.iload_n 2, 1) := by decide +kernel
theorem d_M_exchanges_25 : decode b_M_exchanges 25 = .ok (.if_icmp .eq 31, 3) := by decide +kernel
theorem d_M_exchanges_28 : decode b_M_exchanges 28 = .ok (.iload_n 3, 1) := by decide +kernel
theorem d_M_exchanges_29 : decode b_M_exchanges 29 = .ok (.ifCond .eq 13, 3) := by decide +kernel
theorem d_M_exchanges_32 : decode b_M_exchanges 32 = .ok (.iload 4, 2) := by decide +kernel
theorem d_M_exchanges_34 : decode b_M_exchanges 34 = .ok (.iload_n 2, 1) := by decide +kernel
theorem d_M_exchanges_35 : decode b_M_exchanges 35 = .ok (.if_icmp .le 7, 3) := by decide +kernel
theorem d_M_exchanges_38 : decode b_M_exchanges 38 = .ok (.iconst 1, 1) := by decide +kernel
theorem d_M_exchanges_39 : decode b_M_exchanges 39 = .ok (.goto 4, 3) := by decide +kernel
theorem d_M_exchanges_42 : decode b_M_exchanges 42 = .ok (.iconst 0, 1) := by decide +kernel
theorem d_M_exchanges_43 : decode b_M_exchanges 43 = .ok (.istore_n 3, 1) := by decide +kernel
theorem d_M_exchanges_44 : decode b_M_exchanges 44 = .ok (.aload_n 0, 1) := by decide +kernel
theorem d_M_exchanges_45 : decode b_M_exchanges 45 = .ok (.getfield 8, 3) := by decide +kernel
theorem d_M_exchanges_48 : decode b_M_exchanges 48 = .ok (.iload 4, 2) := by decide +kernel
theorem d_M_exchanges_50 : decode b_M_exchanges 50 = .ok (.iaload, 1) := by decide +kernel
theorem d_M_exchanges_51 : decode b_M_exchanges 51 = .ok (.istore 4, 2) := by decide +kernel
theorem d_M_exchanges_53 : decode b_M_exchanges 53 = .ok (.goto (-31), 3) := by decide +kernel
theorem d_M_exchanges_56 : decode b_M_exchanges 56 = .ok (.iload_n 3, 1) := by decide +kernel
theorem d_M_exchanges_57 : decode b_M_exchanges 57 = .ok (.ifCond .ne 7, 3) := by decide +kernel
theorem d_M_exchanges_60 : decode b_M_exchanges 60 = .ok (.iload_n 1, 1) := by decide +kernel
theorem d_M_exchanges_61 : decode b_M_exchanges 61 = .ok (.iconst 1, 1) := by decide +kernel
theorem d_M_exchanges_62 : decode b_M_exchanges 62 = .ok (.iadd, 1) := by decide +kernel
theorem d_M_exchanges_63 : decode b_M_exchanges 63 = .ok (.istore_n 1, 1) := by decide +kernel
theorem d_M_exchanges_64 : decode b_M_exchanges 64 = .ok (.iinc 2 1, 3) := by decide +kernel
theorem d_M_exchanges_67 : decode b_M_exchanges 67 = .ok (.goto (-63), 3) := by decide +kernel
theorem d_M_exchanges_70 : decode b_M_exchanges 70 = .ok (.iload_n 1, 1) := by decide +kernel
theorem d_M_exchanges_71 : decode b_M_exchanges 71 = .ok (.ireturn, 1) := by decide +kernel
theorem d_M_turns_0 : decode b_M_turns 0 = .ok (.iconst 0, 1) := by decide +kernel
theorem d_M_turns_1 : decode b_M_turns 1 = .ok (.istore_n 1, 1) := by decide +kernel
theorem d_M_turns_2 : decode b_M_turns 2 = .ok (.iload_n 1, 1) := by decide +kernel
theorem d_M_turns_3 : decode b_M_turns 3 = .ok (.aload_n 0, 1) := by decide +kernel
theorem d_M_turns_4 : decode b_M_turns 4 = .ok (.getfield 2, 3) := by decide +kernel
theorem d_M_turns_7 : decode b_M_turns 7 = .ok (.if_icmp .ge 21, 3) := by decide +kernel
theorem d_M_turns_10 : decode b_M_turns 10 = .ok (.aload_n 0, 1) := by decide +kernel
theorem d_M_turns_11 : decode b_M_turns 11 = .ok (.getfield 18, 3) := by decide +kernel
theorem d_M_turns_14 : decode b_M_turns 14 = .ok (.iload_n 1, 1) := by decide +kernel
theorem d_M_turns_15 : decode b_M_turns 15 = .ok (.aload_n 0, 1) := by decide +kernel
theorem d_M_turns_16 : decode b_M_turns 16 = .ok (.getfield 8, 3) := by decide +kernel
theorem d_M_turns_19 : decode b_M_turns 19 = .ok (.iload_n 1, 1) := by decide +kernel
theorem d_M_turns_20 : decode b_M_turns 20 = .ok (.iaload, 1) := by decide +kernel
theorem d_M_turns_21 : decode b_M_turns 21 = .ok (.iastore, 1) := by decide +kernel
theorem d_M_turns_22 : decode b_M_turns 22 = .ok (.iinc 1 1, 3) := by decide +kernel
theorem d_M_turns_25 : decode b_M_turns 25 = .ok (.goto (-23), 3) := by decide +kernel
theorem d_M_turns_28 : decode b_M_turns 28 = .ok (.iconst 1, 1) := by decide +kernel
theorem d_M_turns_29 : decode b_M_turns 29 = .ok (.istore_n 1, 1) := by decide +kernel
theorem d_M_turns_30 : decode b_M_turns 30 = .ok (.iconst 0, 1) := by decide +kernel
theorem d_M_turns_31 : decode b_M_turns 31 = .ok (.istore_n 2, 1) := by decide +kernel
theorem d_M_turns_32 : decode b_M_turns 32 = .ok (.iload_n 2, 1) := by decide +kernel
theorem d_M_turns_33 : decode b_M_turns 33 = .ok (.ifCond .ne 113, 3) := by decide +kernel
theorem d_M_turns_36 : decode b_M_turns 36 = .ok (.iconst 1, 1) := by decide +kernel
theorem d_M_turns_37 : decode b_M_turns 37 = .ok (.istore_n 2, 1) := by decide +kernel
theorem d_M_turns_38 : decode b_M_turns 38 = .ok (.iconst 0, 1) := by decide +kernel
theorem d_M_turns_39 : decode b_M_turns 39 = .ok (.istore_n 3, 1) := by decide +kernel
theorem d_M_turns_40 : decode b_M_turns 40 = .ok (.iload_n 3, 1) := by decide +kernel
theorem d_M_turns_41 : decode b_M_turns 41 = .ok (.aload_n 0, 1) := by decide +kernel
theorem d_M_turns_42 : decode b_M_turns 42 = .ok (.getfield 2, 3) := by decide +kernel
theorem d_M_turns_45 : decode b_M_turns 45 = .ok (.if_icmp .ge 29, 3) := by decide +kernel
theorem d_M_turns_48 : decode b_M_turns 48 = .ok (.iload_n 2, 1) := by decide +kernel
theorem d_M_turns_49 : decode b_M_turns 49 = .ok (.ifCond .eq 17, 3) := by decide +kernel
theorem d_M_turns_52 : decode b_M_turns 52 = .ok (.aload_n 0, 1) := by decide +kernel
theorem d_M_turns_53 : decode b_M_turns 53 = .ok (.getfield 18, 3) := by decide +kernel
theorem d_M_turns_56 : decode b_M_turns 56 = .ok (.iload_n 3, 1) := by decide +kernel
theorem d_M_turns_57 : decode b_M_turns 57 = .ok (.iaload, 1) := by decide +kernel
theorem d_M_turns_58 : decode b_M_turns 58 = .ok (.iload_n 3, 1) := by decide +kernel
theorem d_M_turns_59 : decode b_M_turns 59 = .ok (.if_icmp .ne 7, 3) := by decide +kernel
theorem d_M_turns_62 : decode b_M_turns 62 = .ok (.iconst 1, 1) := by decide +kernel
theorem d_M_turns_63 : decode b_M_turns 63 = .ok (.goto 4, 3) := by decide +kernel
theorem d_M_turns_66 : decode b_M_turns 66 = .ok (.iconst 0, 1) := by decide +kernel
theorem d_M_turns_67 : decode b_M_turns 67 = .ok (.istore_n 2, 1) := by decide +kernel
theorem d_M_turns_68 : decode b_M_turns 68 = .ok (.iinc 3 1, 3) := by decide +kernel
theorem d_M_turns_71 : decode b_M_turns 71 = .ok (.goto (-31), 3) := by decide +kernel
theorem d_M_turns_74 : decode b_M_turns 74 = .ok (.iload_n 2, 1) := by decide +kernel
theorem d_M_turns_75 : decode b_M_turns 75 = .ok (.ifCond .ne (-43), 3) := by decide +kernel
theorem d_M_turns_78 : decode b_M_turns 78 = .ok (.iconst 0, 1) := by decide +kernel
theorem d_M_turns_79 : decode b_M_turns 79 = .ok (.istore_n 3, 1) := by decide +kernel
theorem d_M_turns_80 : decode b_M_turns 80 = .ok (.iload_n 3, 1) := by decide +kernel
theorem d_M_turns_81 : decode b_M_turns 81 = .ok (.aload_n 0, 1) := by decide +kernel
theorem d_M_turns_82 : decode b_M_turns 82 = .ok (.getfield 2, 3) := by decide +kernel
theorem d_M_turns_85 : decode b_M_turns 85 = .ok (.if_icmp .ge 26, 3) := by decide +kernel
theorem d_M_turns_88 : decode b_M_turns 88 = .ok (.aload_n 0, 1) := by decide +kernel
theorem d_M_turns_89 : decode b_M_turns 89 = .ok (.getfield 21, 3) := by decide +kernel
theorem d_M_turns_92 : decode b_M_turns 92 = .ok (.iload_n 3, 1) := by decide +kernel
theorem d_M_turns_93 : decode b_M_turns 93 = .ok (.aload_n 0, 1) := by decide +kernel
theorem d_M_turns_94 : decode b_M_turns 94 = .ok (.getfield 8, 3) := by decide +kernel
theorem d_M_turns_97 : decode b_M_turns 97 = .ok (.aload_n 0, 1) := by decide +kernel
theorem d_M_turns_98 : decode b_M_turns 98 = .ok (.getfield 18, 3) := by decide +kernel
theorem d_M_turns_101 : decode b_M_turns 101 = .ok (.iload_n 3, 1) := by decide +kernel
theorem d_M_turns_102 : decode b_M_turns 102 = .ok (.iaload, 1) := by decide +kernel
theorem d_M_turns_103 : decode b_M_turns 103 = .ok (.iaload, 1) := by decide +kernel
theorem d_M_turns_104 : decode b_M_turns 104 = .ok (.iastore, 1) := by decide +kernel
theorem d_M_turns_105 : decode b_M_turns 105 = .ok (.iinc 3 1, 3) := by decide +kernel
theorem d_M_turns_108 : decode b_M_turns 108 = .ok (.goto (-28), 3) := by decide +kernel
theorem d_M_turns_111 : decode b_M_turns 111 = .ok (.iconst 0, 1) := by decide +kernel
theorem d_M_turns_112 : decode b_M_turns 112 = .ok (.istore_n 3, 1) := by decide +kernel
theorem d_M_turns_113 : decode b_M_turns 113 = .ok (.iload_n 3, 1) := by decide +kernel
theorem d_M_turns_114 : decode b_M_turns 114 = .ok (.aload_n 0, 1) := by decide +kernel
theorem d_M_turns_115 : decode b_M_turns 115 = .ok (.getfield 2, 3) := by decide +kernel
theorem d_M_turns_118 : decode b_M_turns 118 = .ok (.if_icmp .ge 21, 3) := by decide +kernel
theorem d_M_turns_121 : decode b_M_turns 121 = .ok (.aload_n 0, 1) := by decide +kernel
theorem d_M_turns_122 : decode b_M_turns 122 = .ok (.getfield 18, 3) := by decide +kernel
theorem d_M_turns_125 : decode b_M_turns 125 = .ok (.iload_n 3, 1) := by decide +kernel
theorem d_M_turns_126 : decode b_M_turns 126 = .ok (.aload_n 0, 1) := by decide +kernel
theorem d_M_turns_127 : decode b_M_turns 127 = .ok (.getfield 21, 3) := by decide +kernel
theorem d_M_turns_130 : decode b_M_turns 130 = .ok (.iload_n 3, 1) := by decide +kernel
theorem d_M_turns_131 : decode b_M_turns 131 = .ok (.iaload, 1) := by decide +kernel
theorem d_M_turns_132 : decode b_M_turns 132 = .ok (.iastore, 1) := by decide +kernel
theorem d_M_turns_133 : decode b_M_turns 133 = .ok (.iinc 3 1, 3) := by decide +kernel
theorem d_M_turns_136 : decode b_M_turns 136 = .ok (.goto (-23), 3) := by decide +kernel
theorem d_M_turns_139 : decode b_M_turns 139 = .ok (.iload_n 1, 1) := by decide +kernel
theorem d_M_turns_140 : decode b_M_turns 140 = .ok (.iconst 1, 1) := by decide +kernel
theorem d_M_turns_141 : decode b_M_turns 141 = .ok (.iadd, 1) := by decide +kernel
theorem d_M_turns_142 : decode b_M_turns 142 = .ok (.istore_n 1, 1) := by decide +kernel
theorem d_M_turns_143 : decode b_M_turns 143 = .ok (.goto (-111), 3) := by decide +kernel
theorem d_M_turns_146 : decode b_M_turns 146 = .ok (.iload_n 1, 1) := by decide +kernel
theorem d_M_turns_147 : decode b_M_turns 147 = .ok (.ireturn, 1) := by decide +kernel
theorem d_M_longest_0 : decode b_M_longest 0 = .ok (.iconst 0, 1) := by decide +kernel
theorem d_M_longest_1 : decode b_M_longest 1 = .ok (.istore_n 1, 1) := by decide +kernel
theorem d_M_longest_2 : decode b_M_longest 2 = .ok (.iconst 0, 1) := by decide +kernel
theorem d_M_longest_3 : decode b_M_longest 3 = .ok (.istore_n 2, 1) := by decide +kernel
theorem d_M_longest_4 : decode b_M_longest 4 = .ok (.iload_n 2, 1) := by decide +kernel
theorem d_M_longest_5 : decode b_M_longest 5 = .ok (.iconst 1, 1) := by decide +kernel
theorem d_M_longest_6 : decode b_M_longest 6 = .ok (.aload_n 0, 1) := by decide +kernel
theorem d_M_longest_7 : decode b_M_longest 7 = .ok (.getfield 2, 3) := by decide +kernel
theorem d_M_longest_10 : decode b_M_longest 10 = .ok (.ishl, 1) := by decide +kernel
theorem d_M_longest_11 : decode b_M_longest 11 = .ok (.if_icmp .ge 95, 3) := by decide +kernel
theorem d_M_longest_14 : decode b_M_longest 14 = .ok (.iconst (-1), 1) := by decide +kernel
theorem d_M_longest_15 : decode b_M_longest 15 = .ok (.istore_n 3, 1) := by decide +kernel
theorem d_M_longest_16 : decode b_M_longest 16 = .ok (.iconst 0, 1) := by decide +kernel
theorem d_M_longest_17 : decode b_M_longest 17 = .ok (.istore 4, 2) := by decide +kernel
theorem d_M_longest_19 : decode b_M_longest 19 = .ok (.iconst 1, 1) := by decide +kernel
theorem d_M_longest_20 : decode b_M_longest 20 = .ok (.istore 5, 2) := by decide +kernel
theorem d_M_longest_22 : decode b_M_longest 22 = .ok (.iconst 0, 1) := by decide +kernel
theorem d_M_longest_23 : decode b_M_longest 23 = .ok (.istore 6, 2) := by decide +kernel
theorem d_M_longest_25 : decode b_M_longest 25 = .ok (.iload 6, 2) := by decide +kernel
theorem d_M_longest_27 : decode b_M_longest 27 = .ok (.aload_n 0, 1) := by decide +kernel
theorem d_M_longest_28 : decode b_M_longest 28 = .ok (.getfield 2, 3) := by decide +kernel
theorem d_M_longest_31 : decode b_M_longest 31 = .ok (.if_icmp .ge 55, 3) := by decide +kernel
theorem d_M_longest_34 : decode b_M_longest 34 = .ok (.iload_n 2, 1) := by decide +kernel
theorem d_M_longest_35 : decode b_M_longest 35 = .ok (.iload 6, 2) := by decide +kernel
theorem d_M_longest_37 : decode b_M_longest 37 = .ok (.ishr, 1) := by decide +kernel
theorem d_M_longest_38 : decode b_M_longest 38 = .ok (.iconst 1, 1) := by decide +kernel
theorem d_M_longest_39 : decode b_M_longest 39 = .ok (.iand, 1) := by decide +kernel
theorem d_M_longest_40 : decode b_M_longest 40 = .ok (.ifCond .eq 40, 3) := by decide +kernel
theorem d_M_longest_43 : decode b_M_longest 43 = .ok (.iload 5, 2) := by decide +kernel
theorem d_M_longest_45 : decode b_M_longest 45 = .ok (.ifCond .eq 18, 3) := by decide +kernel
theorem d_M_longest_48 : decode b_M_longest 48 = .ok (.aload_n 0, 1) := by decide +kernel
theorem d_M_longest_49 : decode b_M_longest 49 = .ok (.getfield 8, 3) := by decide +kernel
theorem d_M_longest_52 : decode b_M_longest 52 = .ok (.iload 6, 2) := by decide +kernel
theorem d_M_longest_54 : decode b_M_longest 54 = .ok (.iaload, 1) := by decide +kernel
theorem d_M_longest_55 : decode b_M_longest 55 = .ok (.iload_n 3, 1) := by decide +kernel
theorem d_M_longest_56 : decode b_M_longest 56 = .ok (.if_icmp .le 7, 3) := by decide +kernel
theorem d_M_longest_59 : decode b_M_longest 59 = .ok (.iconst 1, 1) := by decide +kernel
theorem d_M_longest_60 : decode b_M_longest 60 = .ok (.goto 4, 3) := by decide +kernel
theorem d_M_longest_63 : decode b_M_longest 63 = .ok (.iconst 0, 1) := by decide +kernel
theorem d_M_longest_64 : decode b_M_longest 64 = .ok (.istore 5, 2) := by decide +kernel
theorem d_M_longest_66 : decode b_M_longest 66 = .ok (.aload_n 0, 1) := by decide +kernel
theorem d_M_longest_67 : decode b_M_longest 67 = .ok (.getfield 8, 3) := by decide +kernel
theorem d_M_longest_70 : decode b_M_longest 70 = .ok (.iload 6, 2) := by decide +kernel
theorem d_M_longest_72 : decode b_M_longest 72 = .ok (.iaload, 1) := by decide +kernel
theorem d_M_longest_73 : decode b_M_longest 73 = .ok (.istore_n 3, 1) := by decide +kernel
theorem d_M_longest_74 : decode b_M_longest 74 = .ok (.iload 4, 2) := by decide +kernel
theorem d_M_longest_76 : decode b_M_longest 76 = .ok (.iconst 1, 1) := by decide +kernel
theorem d_M_longest_77 : decode b_M_longest 77 = .ok (.iadd, 1) := by decide +kernel
theorem d_M_longest_78 : decode b_M_longest 78 = .ok (.istore 4, 2) := by decide +kernel
theorem d_M_longest_80 : decode b_M_longest 80 = .ok (.iinc 6 1, 3) := by decide +kernel
theorem d_M_longest_83 : decode b_M_longest 83 = .ok (.goto (-58), 3) := by decide +kernel
theorem d_M_longest_86 : decode b_M_longest 86 = .ok (.iload 5, 2) := by decide +kernel
theorem d_M_longest_88 : decode b_M_longest 88 = .ok (.ifCond .eq 12, 3) := by decide +kernel
theorem d_M_longest_91 : decode b_M_longest 91 = .ok (.iload 4, 2) := by decide +kernel
theorem d_M_longest_93 : decode b_M_longest 93 = .ok (.iload_n 1, 1) := by decide +kernel
theorem d_M_longest_94 : decode b_M_longest 94 = .ok (.if_icmp .le 6, 3) := by decide +kernel
theorem d_M_longest_97 : decode b_M_longest 97 = .ok (.iload 4, 2) := by decide +kernel
theorem d_M_longest_99 : decode b_M_longest 99 = .ok (.istore_n 1, 1) := by decide +kernel
theorem d_M_longest_100 : decode b_M_longest 100 = .ok (.iinc 2 1, 3) := by decide +kernel
theorem d_M_longest_103 : decode b_M_longest 103 = .ok (.goto (-99), 3) := by decide +kernel
theorem d_M_longest_106 : decode b_M_longest 106 = .ok (.iload_n 1, 1) := by decide +kernel
theorem d_M_longest_107 : decode b_M_longest 107 = .ok (.ireturn, 1) := by decide +kernel
theorem d_M_powers_0 : decode b_M_powers 0 = .ok (.iconst 0, 1) := by decide +kernel
theorem d_M_powers_1 : decode b_M_powers 1 = .ok (.istore_n 2, 1) := by decide +kernel
theorem d_M_powers_2 : decode b_M_powers 2 = .ok (.iload_n 2, 1) := by decide +kernel
theorem d_M_powers_3 : decode b_M_powers 3 = .ok (.aload_n 0, 1) := by decide +kernel
theorem d_M_powers_4 : decode b_M_powers 4 = .ok (.getfield 2, 3) := by decide +kernel
theorem d_M_powers_7 : decode b_M_powers 7 = .ok (.if_icmp .ge 16, 3) := by decide +kernel
theorem d_M_powers_10 : decode b_M_powers 10 = .ok (.aload_n 0, 1) := by decide +kernel
theorem d_M_powers_11 : decode b_M_powers 11 = .ok (.getfield 18, 3) := by decide +kernel
theorem d_M_powers_14 : decode b_M_powers 14 = .ok (.iload_n 2, 1) := by decide +kernel
theorem d_M_powers_15 : decode b_M_powers 15 = .ok (.iload_n 2, 1) := by decide +kernel
theorem d_M_powers_16 : decode b_M_powers 16 = .ok (.iastore, 1) := by decide +kernel
theorem d_M_powers_17 : decode b_M_powers 17 = .ok (.iinc 2 1, 3) := by decide +kernel
theorem d_M_powers_20 : decode b_M_powers 20 = .ok (.goto (-18), 3) := by decide +kernel
theorem d_M_powers_23 : decode b_M_powers 23 = .ok (.iload_n 1, 1) := by decide +kernel
theorem d_M_powers_24 : decode b_M_powers 24 = .ok (.sipush 255, 3) := by decide +kernel
theorem d_M_powers_27 : decode b_M_powers 27 = .ok (.iand, 1) := by decide +kernel
theorem d_M_powers_28 : decode b_M_powers 28 = .ok (.istore_n 2, 1) := by decide +kernel
theorem d_M_powers_29 : decode b_M_powers 29 = .ok (.iconst 0, 1) := by decide +kernel
theorem d_M_powers_30 : decode b_M_powers 30 = .ok (.istore_n 3, 1) := by decide +kernel
theorem d_M_powers_31 : decode b_M_powers 31 = .ok (.iload_n 3, 1) := by decide +kernel
theorem d_M_powers_32 : decode b_M_powers 32 = .ok (.iload_n 2, 1) := by decide +kernel
theorem d_M_powers_33 : decode b_M_powers 33 = .ok (.if_icmp .ge 78, 3) := by decide +kernel
theorem d_M_powers_36 : decode b_M_powers 36 = .ok (.iconst 0, 1) := by decide +kernel
theorem d_M_powers_37 : decode b_M_powers 37 = .ok (.istore 4, 2) := by decide +kernel
theorem d_M_powers_39 : decode b_M_powers 39 = .ok (.iload 4, 2) := by decide +kernel
theorem d_M_powers_41 : decode b_M_powers 41 = .ok (.aload_n 0, 1) := by decide +kernel
theorem d_M_powers_42 : decode b_M_powers 42 = .ok (.getfield 2, 3) := by decide +kernel
theorem d_M_powers_45 : decode b_M_powers 45 = .ok (.if_icmp .ge 28, 3) := by decide +kernel
theorem d_M_powers_48 : decode b_M_powers 48 = .ok (.aload_n 0, 1) := by decide +kernel
theorem d_M_powers_49 : decode b_M_powers 49 = .ok (.getfield 21, 3) := by decide +kernel
theorem d_M_powers_52 : decode b_M_powers 52 = .ok (.iload 4, 2) := by decide +kernel
theorem d_M_powers_54 : decode b_M_powers 54 = .ok (.aload_n 0, 1) := by decide +kernel
theorem d_M_powers_55 : decode b_M_powers 55 = .ok (.getfield 8, 3) := by decide +kernel
theorem d_M_powers_58 : decode b_M_powers 58 = .ok (.aload_n 0, 1) := by decide +kernel
theorem d_M_powers_59 : decode b_M_powers 59 = .ok (.getfield 18, 3) := by decide +kernel
theorem d_M_powers_62 : decode b_M_powers 62 = .ok (.iload 4, 2) := by decide +kernel
theorem d_M_powers_64 : decode b_M_powers 64 = .ok (.iaload, 1) := by decide +kernel
theorem d_M_powers_65 : decode b_M_powers 65 = .ok (.iaload, 1) := by decide +kernel
theorem d_M_powers_66 : decode b_M_powers 66 = .ok (.iastore, 1) := by decide +kernel
theorem d_M_powers_67 : decode b_M_powers 67 = .ok (.iinc 4 1, 3) := by decide +kernel
theorem d_M_powers_70 : decode b_M_powers 70 = .ok (.goto (-31), 3) := by decide +kernel
theorem d_M_powers_73 : decode b_M_powers 73 = .ok (.iconst 0, 1) := by decide +kernel
theorem d_M_powers_74 : decode b_M_powers 74 = .ok (.istore 4, 2) := by decide +kernel
theorem d_M_powers_76 : decode b_M_powers 76 = .ok (.iload 4, 2) := by decide +kernel
theorem d_M_powers_78 : decode b_M_powers 78 = .ok (.aload_n 0, 1) := by decide +kernel
theorem d_M_powers_79 : decode b_M_powers 79 = .ok (.getfield 2, 3) := by decide +kernel
theorem d_M_powers_82 : decode b_M_powers 82 = .ok (.if_icmp .ge 23, 3) := by decide +kernel
theorem d_M_powers_85 : decode b_M_powers 85 = .ok (.aload_n 0, 1) := by decide +kernel
theorem d_M_powers_86 : decode b_M_powers 86 = .ok (.getfield 18, 3) := by decide +kernel
theorem d_M_powers_89 : decode b_M_powers 89 = .ok (.iload 4, 2) := by decide +kernel
theorem d_M_powers_91 : decode b_M_powers 91 = .ok (.aload_n 0, 1) := by decide +kernel
theorem d_M_powers_92 : decode b_M_powers 92 = .ok (.getfield 21, 3) := by decide +kernel
theorem d_M_powers_95 : decode b_M_powers 95 = .ok (.iload 4, 2) := by decide +kernel
theorem d_M_powers_97 : decode b_M_powers 97 = .ok (.iaload, 1) := by decide +kernel
theorem d_M_powers_98 : decode b_M_powers 98 = .ok (.iastore, 1) := by decide +kernel
theorem d_M_powers_99 : decode b_M_powers 99 = .ok (.iinc 4 1, 3) := by decide +kernel
theorem d_M_powers_102 : decode b_M_powers 102 = .ok (.goto (-26), 3) := by decide +kernel
theorem d_M_powers_105 : decode b_M_powers 105 = .ok (.iinc 3 1, 3) := by decide +kernel
theorem d_M_powers_108 : decode b_M_powers 108 = .ok (.goto (-77), 3) := by decide +kernel
theorem d_M_powers_111 : decode b_M_powers 111 = .ok (.iconst 0, 1) := by decide +kernel
theorem d_M_powers_112 : decode b_M_powers 112 = .ok (.istore_n 3, 1) := by decide +kernel
theorem d_M_powers_113 : decode b_M_powers 113 = .ok (.aload_n 0, 1) := by decide +kernel
theorem d_M_powers_114 : decode b_M_powers 114 = .ok (.getfield 2, 3) := by decide +kernel
theorem d_M_powers_117 : decode b_M_powers 117 = .ok (.iconst 1, 1) := by decide +kernel
theorem d_M_powers_118 : decode b_M_powers 118 = .ok (.isub, 1) := by decide +kernel
theorem d_M_powers_119 : decode b_M_powers 119 = .ok (.istore 4, 2) := by decide +kernel
theorem d_M_powers_121 : decode b_M_powers 121 = .ok (.iload 4, 2) := by decide +kernel
theorem d_M_powers_123 : decode b_M_powers 123 = .ok (.ifCond .lt 22, 3) := by decide +kernel
theorem d_M_powers_126 : decode b_M_powers 126 = .ok (.bipush 8, 2) := by decide +kernel
theorem d_M_powers_128 : decode b_M_powers 128 = .ok (.iload_n 3, 1) := by decide +kernel
theorem d_M_powers_129 : decode b_M_powers 129 = .ok (.imul, 1) := by decide +kernel
theorem d_M_powers_130 : decode b_M_powers 130 = .ok (.aload_n 0, 1) := by decide +kernel
theorem d_M_powers_131 : decode b_M_powers 131 = .ok (.getfield 18, 3) := by decide +kernel
theorem d_M_powers_134 : decode b_M_powers 134 = .ok (.iload 4, 2) := by decide +kernel
theorem d_M_powers_136 : decode b_M_powers 136 = .ok (.iaload, 1) := by decide +kernel
theorem d_M_powers_137 : decode b_M_powers 137 = .ok (.iadd, 1) := by decide +kernel
theorem d_M_powers_138 : decode b_M_powers 138 = .ok (.istore_n 3, 1) := by decide +kernel
theorem d_M_powers_139 : decode b_M_powers 139 = .ok (.iinc 4 (-1), 3) := by decide +kernel
theorem d_M_powers_142 : decode b_M_powers 142 = .ok (.goto (-21), 3) := by decide +kernel
theorem d_M_powers_145 : decode b_M_powers 145 = .ok (.iload_n 3, 1) := by decide +kernel
theorem d_M_powers_146 : decode b_M_powers 146 = .ok (.ireturn, 1) := by decide +kernel
theorem d_K_init_0 : decode b_K_init 0 = .ok (.aload_n 0, 1) := by decide +kernel
theorem d_K_init_1 : decode b_K_init 1 = .ok (.invokespecial 1, 3) := by decide +kernel
theorem d_K_init_4 : decode b_K_init 4 = .ok (.aload_n 0, 1) := by decide +kernel
theorem d_K_init_5 : decode b_K_init 5 = .ok (.iload_n 1, 1) := by decide +kernel
theorem d_K_init_6 : decode b_K_init 6 = .ok (.putfield 7, 3) := by decide +kernel
theorem d_K_init_9 : decode b_K_init 9 = .ok (.aload_n 0, 1) := by decide +kernel
theorem d_K_init_10 : decode b_K_init 10 = .ok (.iload_n 2, 1) := by decide +kernel
theorem d_K_init_11 : decode b_K_init 11 = .ok (.putfield 13, 3) := by decide +kernel
theorem d_K_init_14 : decode b_K_init 14 = .ok (.return_, 1) := by decide +kernel
theorem d_K_first_0 : decode b_K_first 0 = .ok (.iconst 0, 1) := by decide +kernel
theorem d_K_first_1 : decode b_K_first 1 = .ok (.istore_n 1, 1) := by decide +kernel
theorem d_K_first_2 : decode b_K_first 2 = .ok (.iload_n 0, 1) := by decide +kernel
theorem d_K_first_3 : decode b_K_first 3 = .ok (.iconst 1, 1) := by decide +kernel
theorem d_K_first_4 : decode b_K_first 4 = .ok (.isub, 1) := by decide +kernel
theorem d_K_first_5 : decode b_K_first 5 = .ok (.istore_n 2, 1) := by decide +kernel
theorem d_K_first_6 : decode b_K_first 6 = .ok (.iload_n 2, 1) := by decide +kernel
theorem d_K_first_7 : decode b_K_first 7 = .ok (.ifCond .lt 15, 3) := by decide +kernel
theorem d_K_first_10 : decode b_K_first 10 = .ok (.iload_n 1, 1) := by decide +kernel
theorem d_K_first_11 : decode b_K_first 11 = .ok (.iconst 3, 1) := by decide +kernel
theorem d_K_first_12 : decode b_K_first 12 = .ok (.ishl, 1) := by decide +kernel
theorem d_K_first_13 : decode b_K_first 13 = .ok (.iload_n 2, 1) := by decide +kernel
theorem d_K_first_14 : decode b_K_first 14 = .ok (.ior, 1) := by decide +kernel
theorem d_K_first_15 : decode b_K_first 15 = .ok (.istore_n 1, 1) := by decide +kernel
theorem d_K_first_16 : decode b_K_first 16 = .ok (.iinc 2 (-1), 3) := by decide +kernel
theorem d_K_first_19 : decode b_K_first 19 = .ok (.goto (-13), 3) := by decide +kernel
theorem d_K_first_22 : decode b_K_first 22 = .ok (.new 8, 3) := by decide +kernel
theorem d_K_first_25 : decode b_K_first 25 = .ok (.dup, 1) := by decide +kernel
theorem d_K_first_26 : decode b_K_first 26 = .ok (.iload_n 0, 1) := by decide +kernel
theorem d_K_first_27 : decode b_K_first 27 = .ok (.iload_n 1, 1) := by decide +kernel
theorem d_K_first_28 : decode b_K_first 28 = .ok (.invokespecial 16, 3) := by decide +kernel
theorem d_K_first_31 : decode b_K_first 31 = .ok (.areturn, 1) := by decide +kernel
theorem d_K_of_0 : decode b_K_of 0 = .ok (.iconst 1, 1) := by decide +kernel
theorem d_K_of_1 : decode b_K_of 1 = .ok (.iload_n 0, 1) := by decide +kernel
theorem d_K_of_2 : decode b_K_of 2 = .ok (.ishl, 1) := by decide +kernel
theorem d_K_of_3 : decode b_K_of 3 = .ok (.iconst 1, 1) := by decide +kernel
theorem d_K_of_4 : decode b_K_of 4 = .ok (.isub, 1) := by decide +kernel
theorem d_K_of_5 : decode b_K_of 5 = .ok (.istore_n 3, 1) := by decide +kernel
theorem d_K_of_6 : decode b_K_of 6 = .ok (.iload_n 1, 1) := by decide +kernel
theorem d_K_of_7 : decode b_K_of 7 = .ok (.istore 4, 2) := by decide +kernel
theorem d_K_of_9 : decode b_K_of 9 = .ok (.iconst 0, 1) := by decide +kernel
theorem d_K_of_10 : decode b_K_of 10 = .ok (.istore 5, 2) := by decide +kernel
theorem d_K_of_12 : decode b_K_of 12 = .ok (.iconst 0, 1) := by decide +kernel
theorem d_K_of_13 : decode b_K_of 13 = .ok (.istore 6, 2) := by decide +kernel
theorem d_K_of_15 : decode b_K_of 15 = .ok (.iload 6, 2) := by decide +kernel
theorem d_K_of_17 : decode b_K_of 17 = .ok (.iload_n 0, 1) := by decide +kernel
theorem d_K_of_18 : decode b_K_of 18 = .ok (.if_icmp .ge 91, 3) := by decide +kernel
theorem d_K_of_21 : decode b_K_of 21 = .ok (.iload 4, 2) := by decide +kernel
theorem d_K_of_23 : decode b_K_of 23 = .ok (.aload_n 2, 1) := by decide +kernel
theorem d_K_of_24 : decode b_K_of 24 = .ok (.iload_n 0, 1) := by decide +kernel
theorem d_K_of_25 : decode b_K_of 25 = .ok (.iconst 1, 1) := by decide +kernel
theorem d_K_of_26 : decode b_K_of 26 = .ok (.isub, 1) := by decide +kernel
theorem d_K_of_27 : decode b_K_of 27 = .ok (.iload 6, 2) := by decide +kernel
theorem d_K_of_29 : decode b_K_of 29 = .ok (.isub, 1) := by decide +kernel
theorem d_K_of_30 : decode b_K_of 30 = .ok (.iaload, 1) := by decide +kernel
theorem d_K_of_31 : decode b_K_of 31 = .ok (.idiv, 1) := by decide +kernel
theorem d_K_of_32 : decode b_K_of 32 = .ok (.istore 7, 2) := by decide +kernel
theorem d_K_of_34 : decode b_K_of 34 = .ok (.iload 4, 2) := by decide +kernel
theorem d_K_of_36 : decode b_K_of 36 = .ok (.aload_n 2, 1) := by decide +kernel
theorem d_K_of_37 : decode b_K_of 37 = .ok (.iload_n 0, 1) := by decide +kernel
theorem d_K_of_38 : decode b_K_of 38 = .ok (.iconst 1, 1) := by decide +kernel
theorem d_K_of_39 : decode b_K_of 39 = .ok (.isub, 1) := by decide +kernel
theorem d_K_of_40 : decode b_K_of 40 = .ok (.iload 6, 2) := by decide +kernel
theorem d_K_of_42 : decode b_K_of 42 = .ok (.isub, 1) := by decide +kernel
theorem d_K_of_43 : decode b_K_of 43 = .ok (.iaload, 1) := by decide +kernel
theorem d_K_of_44 : decode b_K_of 44 = .ok (.irem, 1) := by decide +kernel
theorem d_K_of_45 : decode b_K_of 45 = .ok (.istore 4, 2) := by decide +kernel
theorem d_K_of_47 : decode b_K_of 47 = .ok (.iload_n 3, 1) := by decide +kernel
theorem d_K_of_48 : decode b_K_of 48 = .ok (.istore 8, 2) := by decide +kernel
theorem d_K_of_50 : decode b_K_of 50 = .ok (.iconst 0, 1) := by decide +kernel
theorem d_K_of_51 : decode b_K_of 51 = .ok (.istore 9, 2) := by decide +kernel
theorem d_K_of_53 : decode b_K_of 53 = .ok (.iload 9, 2) := by decide +kernel
theorem d_K_of_55 : decode b_K_of 55 = .ok (.iload 7, 2) := by decide +kernel
theorem d_K_of_57 : decode b_K_of 57 = .ok (.if_icmp .ge 18, 3) := by decide +kernel
theorem d_K_of_60 : decode b_K_of 60 = .ok (.iload 8, 2) := by decide +kernel
theorem d_K_of_62 : decode b_K_of 62 = .ok (.iload 8, 2) := by decide +kernel
theorem d_K_of_64 : decode b_K_of 64 = .ok (.iconst 1, 1) := by decide +kernel
theorem d_K_of_65 : decode b_K_of 65 = .ok (.isub, 1) := by decide +kernel
theorem d_K_of_66 : decode b_K_of 66 = .ok (.iand, 1) := by decide +kernel
theorem d_K_of_67 : decode b_K_of 67 = .ok (.istore 8, 2) := by decide +kernel
theorem d_K_of_69 : decode b_K_of 69 = .ok (.iinc 9 1, 3) := by decide +kernel
theorem d_K_of_72 : decode b_K_of 72 = .ok (.goto (-19), 3) := by decide +kernel
theorem d_K_of_75 : decode b_K_of 75 = .ok (.iload 8, 2) := by decide +kernel
theorem d_K_of_77 : decode b_K_of 77 = .ok (.invokestatic 19, 3) := by decide +kernel
theorem d_K_of_80 : decode b_K_of 80 = .ok (.istore 9, 2) := by decide +kernel
theorem d_K_of_82 : decode b_K_of 82 = .ok (.iload_n 3, 1) := by decide +kernel
theorem d_K_of_83 : decode b_K_of 83 = .ok (.iconst 1, 1) := by decide +kernel
theorem d_K_of_84 : decode b_K_of 84 = .ok (.iload 9, 2) := by decide +kernel
theorem d_K_of_86 : decode b_K_of 86 = .ok (.ishl, 1) := by decide +kernel
theorem d_K_of_87 : decode b_K_of 87 = .ok (.iconst (-1), 1) := by decide +kernel
theorem d_K_of_88 : decode b_K_of 88 = .ok (.ixor, 1) := by decide +kernel
theorem d_K_of_89 : decode b_K_of 89 = .ok (.iand, 1) := by decide +kernel
theorem d_K_of_90 : decode b_K_of 90 = .ok (.istore_n 3, 1) := by decide +kernel
theorem d_K_of_91 : decode b_K_of 91 = .ok (.iload 5, 2) := by decide +kernel
theorem d_K_of_93 : decode b_K_of 93 = .ok (.iload 9, 2) := by decide +kernel
theorem d_K_of_95 : decode b_K_of 95 = .ok (.iconst 3, 1) := by decide +kernel
theorem d_K_of_96 : decode b_K_of 96 = .ok (.iload 6, 2) := by decide +kernel
theorem d_K_of_98 : decode b_K_of 98 = .ok (.imul, 1) := by decide +kernel
theorem d_K_of_99 : decode b_K_of 99 = .ok (.ishl, 1) := by decide +kernel
theorem d_K_of_100 : decode b_K_of 100 = .ok (.ior, 1) := by decide +kernel
theorem d_K_of_101 : decode b_K_of 101 = .ok (.istore 5, 2) := by decide +kernel
theorem d_K_of_103 : decode b_K_of 103 = .ok (.iinc 6 1, 3) := by decide +kernel
theorem d_K_of_106 : decode b_K_of 106 = .ok (.goto (-91), 3) := by decide +kernel
theorem d_K_of_109 : decode b_K_of 109 = .ok (.new 8, 3) := by decide +kernel
theorem d_K_of_112 : decode b_K_of 112 = .ok (.dup, 1) := by decide +kernel
theorem d_K_of_113 : decode b_K_of 113 = .ok (.iload_n 0, 1) := by decide +kernel
theorem d_K_of_114 : decode b_K_of 114 = .ok (.iload 5, 2) := by decide +kernel
theorem d_K_of_116 : decode b_K_of 116 = .ok (.invokespecial 16, 3) := by decide +kernel
theorem d_K_of_119 : decode b_K_of 119 = .ok (.areturn, 1) := by decide +kernel
theorem d_K_at_0 : decode b_K_at 0 = .ok (.aload_n 0, 1) := by decide +kernel
theorem d_K_at_1 : decode b_K_at 1 = .ok (.getfield 13, 3) := by decide +kernel
theorem d_K_at_4 : decode b_K_at 4 = .ok (.iconst 3, 1) := by decide +kernel
theorem d_K_at_5 : decode b_K_at 5 = .ok (.iload_n 1, 1) := by decide +kernel
theorem d_K_at_6 : decode b_K_at 6 = .ok (.imul, 1) := by decide +kernel
theorem d_K_at_7 : decode b_K_at 7 = .ok (.ishr, 1) := by decide +kernel
theorem d_K_at_8 : decode b_K_at 8 = .ok (.bipush 7, 2) := by decide +kernel
theorem d_K_at_10 : decode b_K_at 10 = .ok (.iand, 1) := by decide +kernel
theorem d_K_at_11 : decode b_K_at 11 = .ok (.ireturn, 1) := by decide +kernel
theorem d_K_exchanged_0 : decode b_K_exchanged 0 = .ok (.aload_n 0, 1) := by decide +kernel
theorem d_K_exchanged_1 : decode b_K_exchanged 1 = .ok (.iload_n 1, 1) := by decide +kernel
theorem d_K_exchanged_2 : decode b_K_exchanged 2 = .ok (.invokevirtual 25, 3) := by decide +kernel
theorem d_K_exchanged_5 : decode b_K_exchanged 5 = .ok (.aload_n 0, 1) := by decide +kernel
theorem d_K_exchanged_6 : decode b_K_exchanged 6 = .ok (.iload_n 2, 1) := by decide +kernel
theorem d_K_exchanged_7 : decode b_K_exchanged 7 = .ok (.invokevirtual 25, 3) := by decide +kernel
theorem d_K_exchanged_10 : decode b_K_exchanged 10 = .ok (.ixor, 1) := by decide +kernel
theorem d_K_exchanged_11 : decode b_K_exchanged 11 = .ok (.istore_n 3, 1) := by decide +kernel
theorem d_K_exchanged_12 : decode b_K_exchanged 12 = .ok (.new 8, 3) := by decide +kernel
theorem d_K_exchanged_15 : decode b_K_exchanged 15 = .ok (.dup, 1) := by decide +kernel
theorem d_K_exchanged_16 : decode b_K_exchanged 16 = .ok (.aload_n 0, 1) := by decide +kernel
theorem d_K_exchanged_17 : decode b_K_exchanged 17 = .ok (.getfield 7, 3) := by decide +kernel
theorem d_K_exchanged_20 : decode b_K_exchanged 20 = .ok (.aload_n 0, 1) := by decide +kernel
theorem d_K_exchanged_21 : decode b_K_exchanged 21 = .ok (.getfield 13, 3) := by decide +kernel
theorem d_K_exchanged_24 : decode b_K_exchanged 24 = .ok (.iload_n 3, 1) := by decide +kernel
theorem d_K_exchanged_25 : decode b_K_exchanged 25 = .ok (.iconst 3, 1) := by decide +kernel
theorem d_K_exchanged_26 : decode b_K_exchanged 26 = .ok (.iload_n 1, 1) := by decide +kernel
theorem d_K_exchanged_27 : decode b_K_exchanged 27 = .ok (.imul, 1) := by decide +kernel
theorem d_K_exchanged_28 : decode b_K_exchanged 28 = .ok (.ishl, 1) := by decide +kernel
theorem d_K_exchanged_29 : decode b_K_exchanged 29 = .ok (.ixor, 1) := by decide +kernel
theorem d_K_exchanged_30 : decode b_K_exchanged 30 = .ok (.iload_n 3, 1) := by decide +kernel
theorem d_K_exchanged_31 : decode b_K_exchanged 31 = .ok (.iconst 3, 1) := by decide +kernel
theorem d_K_exchanged_32 : decode b_K_exchanged 32 = .ok (.iload_n 2, 1) := by decide +kernel
theorem d_K_exchanged_33 : decode b_K_exchanged 33 = .ok (.imul, 1) := by decide +kernel
theorem d_K_exchanged_34 : decode b_K_exchanged 34 = .ok (.ishl, 1) := by decide +kernel
theorem d_K_exchanged_35 : decode b_K_exchanged 35 = .ok (.ixor, 1) := by decide +kernel
theorem d_K_exchanged_36 : decode b_K_exchanged 36 = .ok (.invokespecial 16, 3) := by decide +kernel
theorem d_K_exchanged_39 : decode b_K_exchanged 39 = .ok (.areturn, 1) := by decide +kernel
theorem d_K_then_0 : decode b_K_then 0 = .ok (.iconst 0, 1) := by decide +kernel
theorem d_K_then_1 : decode b_K_then 1 = .ok (.istore_n 2, 1) := by decide +kernel
theorem d_K_then_2 : decode b_K_then 2 = .ok (.aload_n 0, 1) := by decide +kernel
theorem d_K_then_3 : decode b_K_then 3 = .ok (.getfield 7, 3) := by decide +kernel
theorem d_K_then_6 : decode b_K_then 6 = .ok (.iconst 1, 1) := by decide +kernel
theorem d_K_then_7 : decode b_K_then 7 = .ok (.isub, 1) := by decide +kernel
theorem d_K_then_8 : decode b_K_then 8 = .ok (.istore_n 3, 1) := by decide +kernel
theorem d_K_then_9 : decode b_K_then 9 = .ok (.iload_n 3, 1) := by decide +kernel
theorem d_K_then_10 : decode b_K_then 10 = .ok (.ifCond .lt 23, 3) := by decide +kernel
theorem d_K_then_13 : decode b_K_then 13 = .ok (.iload_n 2, 1) := by decide +kernel
theorem d_K_then_14 : decode b_K_then 14 = .ok (.iconst 3, 1) := by decide +kernel
theorem d_K_then_15 : decode b_K_then 15 = .ok (.ishl, 1) := by decide +kernel
theorem d_K_then_16 : decode b_K_then 16 = .ok (.aload_n 1, 1) := by decide +kernel
theorem d_K_then_17 : decode b_K_then 17 = .ok (.aload_n 0, 1) := by decide +kernel
theorem d_K_then_18 : decode b_K_then 18 = .ok (.iload_n 3, 1) := by decide +kernel
theorem d_K_then_19 : decode b_K_then 19 = .ok (.invokevirtual 25, 3) := by decide +kernel
theorem d_K_then_22 : decode b_K_then 22 = .ok (.invokevirtual 25, 3) := by decide +kernel
theorem d_K_then_25 : decode b_K_then 25 = .ok (.ior, 1) := by decide +kernel
theorem d_K_then_26 : decode b_K_then 26 = .ok (.istore_n 2, 1) := by decide +kernel
theorem d_K_then_27 : decode b_K_then 27 = .ok (.iinc 3 (-1), 3) := by decide +kernel
theorem d_K_then_30 : decode b_K_then 30 = .ok (.goto (-21), 3) := by decide +kernel
theorem d_K_then_33 : decode b_K_then 33 = .ok (.new 8, 3) := by decide +kernel
theorem d_K_then_36 : decode b_K_then 36 = .ok (.dup, 1) := by decide +kernel
theorem d_K_then_37 : decode b_K_then 37 = .ok (.aload_n 0, 1) := by decide +kernel
theorem d_K_then_38 : decode b_K_then 38 = .ok (.getfield 7, 3) := by decide +kernel
theorem d_K_then_41 : decode b_K_then 41 = .ok (.iload_n 2, 1) := by decide +kernel
theorem d_K_then_42 : decode b_K_then 42 = .ok (.invokespecial 16, 3) := by decide +kernel
theorem d_K_then_45 : decode b_K_then 45 = .ok (.areturn, 1) := by decide +kernel
theorem d_K_rank_0 : decode b_K_rank 0 = .ok (.iconst 1, 1) := by decide +kernel
theorem d_K_rank_1 : decode b_K_rank 1 = .ok (.aload_n 0, 1) := by decide +kernel
theorem d_K_rank_2 : decode b_K_rank 2 = .ok (.getfield 7, 3) := by decide +kernel
theorem d_K_rank_5 : decode b_K_rank 5 = .ok (.ishl, 1) := by decide +kernel
theorem d_K_rank_6 : decode b_K_rank 6 = .ok (.iconst 1, 1) := by decide +kernel
theorem d_K_rank_7 : decode b_K_rank 7 = .ok (.isub, 1) := by decide +kernel
theorem d_K_rank_8 : decode b_K_rank 8 = .ok (.istore_n 2, 1) := by decide +kernel
theorem d_K_rank_9 : decode b_K_rank 9 = .ok (.iconst 0, 1) := by decide +kernel
theorem d_K_rank_10 : decode b_K_rank 10 = .ok (.istore_n 3, 1) := by decide +kernel
theorem d_K_rank_11 : decode b_K_rank 11 = .ok (.iconst 0, 1) := by decide +kernel
theorem d_K_rank_12 : decode b_K_rank 12 = .ok (.istore 4, 2) := by decide +kernel
theorem d_K_rank_14 : decode b_K_rank 14 = .ok (.iload 4, 2) := by decide +kernel
theorem d_K_rank_16 : decode b_K_rank 16 = .ok (.aload_n 0, 1) := by decide +kernel
theorem d_K_rank_17 : decode b_K_rank 17 = .ok (.getfield 7, 3) := by decide +kernel
theorem d_K_rank_20 : decode b_K_rank 20 = .ok (.if_icmp .ge 52, 3) := by decide +kernel
theorem d_K_rank_23 : decode b_K_rank 23 = .ok (.aload_n 0, 1) := by decide +kernel
theorem d_K_rank_24 : decode b_K_rank 24 = .ok (.iload 4, 2) := by decide +kernel
theorem d_K_rank_26 : decode b_K_rank 26 = .ok (.invokevirtual 25, 3) := by decide +kernel
theorem d_K_rank_29 : decode b_K_rank 29 = .ok (.istore 5, 2) := by decide +kernel
theorem d_K_rank_31 : decode b_K_rank 31 = .ok (.iload_n 3, 1) := by decide +kernel
theorem d_K_rank_32 : decode b_K_rank 32 = .ok (.iload_n 2, 1) := by decide +kernel
theorem d_K_rank_33 : decode b_K_rank 33 = .ok (.iconst 1, 1) := by decide +kernel
theorem d_K_rank_34 : decode b_K_rank 34 = .ok (.iload 5, 2) := by decide +kernel
theorem d_K_rank_36 : decode b_K_rank 36 = .ok (.ishl, 1) := by decide +kernel
theorem d_K_rank_37 : decode b_K_rank 37 = .ok (.iconst 1, 1) := by decide +kernel
theorem d_K_rank_38 : decode b_K_rank 38 = .ok (.isub, 1) := by decide +kernel
theorem d_K_rank_39 : decode b_K_rank 39 = .ok (.iand, 1) := by decide +kernel
theorem d_K_rank_40 : decode b_K_rank 40 = .ok (.invokestatic 28, 3) := by decide +kernel
theorem d_K_rank_43 : decode b_K_rank 43 = .ok (.aload_n 1, 1) := by decide +kernel
theorem d_K_rank_44 : decode b_K_rank 44 = .ok (.aload_n 0, 1) := by decide +kernel
theorem d_K_rank_45 : decode b_K_rank 45 = .ok (.getfield 7, 3) := by decide +kernel
theorem d_K_rank_48 : decode b_K_rank 48 = .ok (.iconst 1, 1) := by decide +kernel
theorem d_K_rank_49 : decode b_K_rank 49 = .ok (.isub, 1) := by decide +kernel
theorem d_K_rank_50 : decode b_K_rank 50 = .ok (.iload 4, 2) := by decide +kernel
theorem d_K_rank_52 : decode b_K_rank 52 = .ok (.isub, 1) := by decide +kernel
theorem d_K_rank_53 : decode b_K_rank 53 = .ok (.iaload, 1) := by decide +kernel
theorem d_K_rank_54 : decode b_K_rank 54 = .ok (.imul, 1) := by decide +kernel
theorem d_K_rank_55 : decode b_K_rank 55 = .ok (.iadd, 1) := by decide +kernel
theorem d_K_rank_56 : decode b_K_rank 56 = .ok (.istore_n 3, 1) := by decide +kernel
theorem d_K_rank_57 : decode b_K_rank 57 = .ok (.iload_n 2, 1) := by decide +kernel
theorem d_K_rank_58 : decode b_K_rank 58 = .ok (.iconst 1, 1) := by decide +kernel
theorem d_K_rank_59 : decode b_K_rank 59 = .ok (.iload 5, 2) := by decide +kernel
theorem d_K_rank_61 : decode b_K_rank 61 = .ok (.ishl, 1) := by decide +kernel
theorem d_K_rank_62 : decode b_K_rank 62 = .ok (.iconst (-1), 1) := by decide +kernel
theorem d_K_rank_63 : decode b_K_rank 63 = .ok (.ixor, 1) := by decide +kernel
theorem d_K_rank_64 : decode b_K_rank 64 = .ok (.iand, 1) := by decide +kernel
theorem d_K_rank_65 : decode b_K_rank 65 = .ok (.istore_n 2, 1) := by decide +kernel
theorem d_K_rank_66 : decode b_K_rank 66 = .ok (.iinc 4 1, 3) := by decide +kernel
theorem d_K_rank_69 : decode b_K_rank 69 = .ok (.goto (-55), 3) := by decide +kernel
theorem d_K_rank_72 : decode b_K_rank 72 = .ok (.iload_n 3, 1) := by decide +kernel
theorem d_K_rank_73 : decode b_K_rank 73 = .ok (.ireturn, 1) := by decide +kernel
theorem d_K_ring_0 : decode b_K_ring 0 = .ok (.iconst 0, 1) := by decide +kernel
theorem d_K_ring_1 : decode b_K_ring 1 = .ok (.istore_n 3, 1) := by decide +kernel
theorem d_K_ring_2 : decode b_K_ring 2 = .ok (.iload_n 1, 1) := by decide +kernel
theorem d_K_ring_3 : decode b_K_ring 3 = .ok (.istore 4, 2) := by decide +kernel
theorem d_K_ring_5 : decode b_K_ring 5 = .ok (.iload_n 3, 1) := by decide +kernel
theorem d_K_ring_6 : decode b_K_ring 6 = .ok (.iload 4, 2) := by decide +kernel
theorem d_K_ring_8 : decode b_K_ring 8 = .ok (.ishr, 1) := by decide +kernel
theorem d_K_ring_9 : decode b_K_ring 9 = .ok (.iconst 1, 1) := by decide +kernel
theorem d_K_ring_10 : decode b_K_ring 10 = .ok (.iand, 1) := by decide +kernel
theorem d_K_ring_11 : decode b_K_ring 11 = .ok (.ifCond .ne 21, 3) := by decide +kernel
theorem d_K_ring_14 : decode b_K_ring 14 = .ok (.iload_n 3, 1) := by decide +kernel
theorem d_K_ring_15 : decode b_K_ring 15 = .ok (.iconst 1, 1) := by decide +kernel
theorem d_K_ring_16 : decode b_K_ring 16 = .ok (.iload 4, 2) := by decide +kernel
theorem d_K_ring_18 : decode b_K_ring 18 = .ok (.ishl, 1) := by decide +kernel
theorem d_K_ring_19 : decode b_K_ring 19 = .ok (.ior, 1) := by decide +kernel
theorem d_K_ring_20 : decode b_K_ring 20 = .ok (.istore_n 3, 1) := by decide +kernel
theorem d_K_ring_21 : decode b_K_ring 21 = .ok (.aload_n 0, 1) := by decide +kernel
theorem d_K_ring_22 : decode b_K_ring 22 = .ok (.iload 4, 2) := by decide +kernel
theorem d_K_ring_24 : decode b_K_ring 24 = .ok (.invokevirtual 25, 3) := by decide +kernel
theorem d_K_ring_27 : decode b_K_ring 27 = .ok (.istore 4, 2) := by decide +kernel
theorem d_K_ring_29 : decode b_K_ring 29 = .ok (.goto (-24), 3) := by decide +kernel
theorem d_K_ring_32 : decode b_K_ring 32 = .ok (.iload_n 2, 1) := by decide +kernel
theorem d_K_ring_33 : decode b_K_ring 33 = .ok (.iload_n 3, 1) := by decide +kernel
theorem d_K_ring_34 : decode b_K_ring 34 = .ok (.ior, 1) := by decide +kernel
theorem d_K_ring_35 : decode b_K_ring 35 = .ok (.ireturn, 1) := by decide +kernel
theorem d_K_packed_0 : decode b_K_packed 0 = .ok (.aload_n 0, 1) := by decide +kernel
theorem d_K_packed_1 : decode b_K_packed 1 = .ok (.getfield 13, 3) := by decide +kernel
theorem d_K_packed_4 : decode b_K_packed 4 = .ok (.ireturn, 1) := by decide +kernel
theorem d_I_bitCount_0 : decode b_I_bitCount 0 = .ok (.iload_n 0, 1) := by decide +kernel
theorem d_I_bitCount_1 : decode b_I_bitCount 1 = .ok (.iload_n 0, 1) := by decide +kernel
theorem d_I_bitCount_2 : decode b_I_bitCount 2 = .ok (.iconst 1, 1) := by decide +kernel
theorem d_I_bitCount_3 : decode b_I_bitCount 3 = .ok (.iushr, 1) := by decide +kernel
theorem d_I_bitCount_4 : decode b_I_bitCount 4 = .ok (.ldc_w 265, 3) := by decide +kernel
theorem d_I_bitCount_7 : decode b_I_bitCount 7 = .ok (.iand, 1) := by decide +kernel
theorem d_I_bitCount_8 : decode b_I_bitCount 8 = .ok (.isub, 1) := by decide +kernel
theorem d_I_bitCount_9 : decode b_I_bitCount 9 = .ok (.istore_n 0, 1) := by decide +kernel
theorem d_I_bitCount_10 : decode b_I_bitCount 10 = .ok (.iload_n 0, 1) := by decide +kernel
theorem d_I_bitCount_11 : decode b_I_bitCount 11 = .ok (.ldc_w 266, 3) := by decide +kernel
theorem d_I_bitCount_14 : decode b_I_bitCount 14 = .ok (.iand, 1) := by decide +kernel
theorem d_I_bitCount_15 : decode b_I_bitCount 15 = .ok (.iload_n 0, 1) := by decide +kernel
theorem d_I_bitCount_16 : decode b_I_bitCount 16 = .ok (.iconst 2, 1) := by decide +kernel
theorem d_I_bitCount_17 : decode b_I_bitCount 17 = .ok (.iushr, 1) := by decide +kernel
theorem d_I_bitCount_18 : decode b_I_bitCount 18 = .ok (.ldc_w 266, 3) := by decide +kernel
theorem d_I_bitCount_21 : decode b_I_bitCount 21 = .ok (.iand, 1) := by decide +kernel
theorem d_I_bitCount_22 : decode b_I_bitCount 22 = .ok (.iadd, 1) := by decide +kernel
theorem d_I_bitCount_23 : decode b_I_bitCount 23 = .ok (.istore_n 0, 1) := by decide +kernel
theorem d_I_bitCount_24 : decode b_I_bitCount 24 = .ok (.iload_n 0, 1) := by decide +kernel
theorem d_I_bitCount_25 : decode b_I_bitCount 25 = .ok (.iload_n 0, 1) := by decide +kernel
theorem d_I_bitCount_26 : decode b_I_bitCount 26 = .ok (.iconst 4, 1) := by decide +kernel
theorem d_I_bitCount_27 : decode b_I_bitCount 27 = .ok (.iushr, 1) := by decide +kernel
theorem d_I_bitCount_28 : decode b_I_bitCount 28 = .ok (.iadd, 1) := by decide +kernel
theorem d_I_bitCount_29 : decode b_I_bitCount 29 = .ok (.ldc_w 267, 3) := by decide +kernel
theorem d_I_bitCount_32 : decode b_I_bitCount 32 = .ok (.iand, 1) := by decide +kernel
theorem d_I_bitCount_33 : decode b_I_bitCount 33 = .ok (.istore_n 0, 1) := by decide +kernel
theorem d_I_bitCount_34 : decode b_I_bitCount 34 = .ok (.iload_n 0, 1) := by decide +kernel
theorem d_I_bitCount_35 : decode b_I_bitCount 35 = .ok (.iload_n 0, 1) := by decide +kernel
theorem d_I_bitCount_36 : decode b_I_bitCount 36 = .ok (.bipush 8, 2) := by decide +kernel
theorem d_I_bitCount_38 : decode b_I_bitCount 38 = .ok (.iushr, 1) := by decide +kernel
theorem d_I_bitCount_39 : decode b_I_bitCount 39 = .ok (.iadd, 1) := by decide +kernel
theorem d_I_bitCount_40 : decode b_I_bitCount 40 = .ok (.istore_n 0, 1) := by decide +kernel
theorem d_I_bitCount_41 : decode b_I_bitCount 41 = .ok (.iload_n 0, 1) := by decide +kernel
theorem d_I_bitCount_42 : decode b_I_bitCount 42 = .ok (.iload_n 0, 1) := by decide +kernel
theorem d_I_bitCount_43 : decode b_I_bitCount 43 = .ok (.bipush 16, 2) := by decide +kernel
theorem d_I_bitCount_45 : decode b_I_bitCount 45 = .ok (.iushr, 1) := by decide +kernel
theorem d_I_bitCount_46 : decode b_I_bitCount 46 = .ok (.iadd, 1) := by decide +kernel
theorem d_I_bitCount_47 : decode b_I_bitCount 47 = .ok (.istore_n 0, 1) := by decide +kernel
theorem d_I_bitCount_48 : decode b_I_bitCount 48 = .ok (.iload_n 0, 1) := by decide +kernel
theorem d_I_bitCount_49 : decode b_I_bitCount 49 = .ok (.bipush 63, 2) := by decide +kernel
theorem d_I_bitCount_51 : decode b_I_bitCount 51 = .ok (.iand, 1) := by decide +kernel
theorem d_I_bitCount_52 : decode b_I_bitCount 52 = .ok (.ireturn, 1) := by decide +kernel
theorem d_I_numberOfTrailingZeros_0 : decode b_I_numberOfTrailingZeros 0 = .ok (.iload_n 0, 1) := by decide +kernel
theorem d_I_numberOfTrailingZeros_1 : decode b_I_numberOfTrailingZeros 1 = .ok (.iconst (-1), 1) := by decide +kernel
theorem d_I_numberOfTrailingZeros_2 : decode b_I_numberOfTrailingZeros 2 = .ok (.ixor, 1) := by decide +kernel
theorem d_I_numberOfTrailingZeros_3 : decode b_I_numberOfTrailingZeros 3 = .ok (.iload_n 0, 1) := by decide +kernel
theorem d_I_numberOfTrailingZeros_4 : decode b_I_numberOfTrailingZeros 4 = .ok (.iconst 1, 1) := by decide +kernel
theorem d_I_numberOfTrailingZeros_5 : decode b_I_numberOfTrailingZeros 5 = .ok (.isub, 1) := by decide +kernel
theorem d_I_numberOfTrailingZeros_6 : decode b_I_numberOfTrailingZeros 6 = .ok (.iand, 1) := by decide +kernel
theorem d_I_numberOfTrailingZeros_7 : decode b_I_numberOfTrailingZeros 7 = .ok (.istore_n 0, 1) := by decide +kernel
theorem d_I_numberOfTrailingZeros_8 : decode b_I_numberOfTrailingZeros 8 = .ok (.iload_n 0, 1) := by decide +kernel
theorem d_I_numberOfTrailingZeros_9 : decode b_I_numberOfTrailingZeros 9 = .ok (.ifCond .gt 8, 3) := by decide +kernel
theorem d_I_numberOfTrailingZeros_12 : decode b_I_numberOfTrailingZeros 12 = .ok (.iload_n 0, 1) := by decide +kernel
theorem d_I_numberOfTrailingZeros_13 : decode b_I_numberOfTrailingZeros 13 = .ok (.bipush 32, 2) := by decide +kernel
theorem d_I_numberOfTrailingZeros_15 : decode b_I_numberOfTrailingZeros 15 = .ok (.iand, 1) := by decide +kernel
theorem d_I_numberOfTrailingZeros_16 : decode b_I_numberOfTrailingZeros 16 = .ok (.ireturn, 1) := by decide +kernel
theorem d_I_numberOfTrailingZeros_17 : decode b_I_numberOfTrailingZeros 17 = .ok (.iconst 1, 1) := by decide +kernel
theorem d_I_numberOfTrailingZeros_18 : decode b_I_numberOfTrailingZeros 18 = .ok (.istore_n 1, 1) := by decide +kernel
theorem d_I_numberOfTrailingZeros_19 : decode b_I_numberOfTrailingZeros 19 = .ok (.iload_n 0, 1) := by decide +kernel
theorem d_I_numberOfTrailingZeros_20 : decode b_I_numberOfTrailingZeros 20 = .ok (.ldc_w 264, 3) := by decide +kernel
theorem d_I_numberOfTrailingZeros_23 : decode b_I_numberOfTrailingZeros 23 = .ok (.if_icmp .le 11, 3) := by decide +kernel
theorem d_I_numberOfTrailingZeros_26 : decode b_I_numberOfTrailingZeros 26 = .ok (.iinc 1 16, 3) := by decide +kernel
theorem d_I_numberOfTrailingZeros_29 : decode b_I_numberOfTrailingZeros 29 = .ok (.iload_n 0, 1) := by decide +kernel
theorem d_I_numberOfTrailingZeros_30 : decode b_I_numberOfTrailingZeros 30 = .ok (.bipush 16, 2) := by decide +kernel
theorem d_I_numberOfTrailingZeros_32 : decode b_I_numberOfTrailingZeros 32 = .ok (.iushr, 1) := by decide +kernel
theorem d_I_numberOfTrailingZeros_33 : decode b_I_numberOfTrailingZeros 33 = .ok (.istore_n 0, 1) := by decide +kernel
theorem d_I_numberOfTrailingZeros_34 : decode b_I_numberOfTrailingZeros 34 = .ok (.iload_n 0, 1) := by decide +kernel
theorem d_I_numberOfTrailingZeros_35 : decode b_I_numberOfTrailingZeros 35 = .ok (.sipush 256, 3) := by decide +kernel
theorem d_I_numberOfTrailingZeros_38 : decode b_I_numberOfTrailingZeros 38 = .ok (.if_icmp .le 11, 3) := by decide +kernel
theorem d_I_numberOfTrailingZeros_41 : decode b_I_numberOfTrailingZeros 41 = .ok (.iinc 1 8, 3) := by decide +kernel
theorem d_I_numberOfTrailingZeros_44 : decode b_I_numberOfTrailingZeros 44 = .ok (.iload_n 0, 1) := by decide +kernel
theorem d_I_numberOfTrailingZeros_45 : decode b_I_numberOfTrailingZeros 45 = .ok (.bipush 8, 2) := by decide +kernel
theorem d_I_numberOfTrailingZeros_47 : decode b_I_numberOfTrailingZeros 47 = .ok (.iushr, 1) := by decide +kernel
theorem d_I_numberOfTrailingZeros_48 : decode b_I_numberOfTrailingZeros 48 = .ok (.istore_n 0, 1) := by decide +kernel
theorem d_I_numberOfTrailingZeros_49 : decode b_I_numberOfTrailingZeros 49 = .ok (.iload_n 0, 1) := by decide +kernel
theorem d_I_numberOfTrailingZeros_50 : decode b_I_numberOfTrailingZeros 50 = .ok (.bipush 16, 2) := by decide +kernel
theorem d_I_numberOfTrailingZeros_52 : decode b_I_numberOfTrailingZeros 52 = .ok (.if_icmp .le 10, 3) := by decide +kernel
theorem d_I_numberOfTrailingZeros_55 : decode b_I_numberOfTrailingZeros 55 = .ok (.iinc 1 4, 3) := by decide +kernel
theorem d_I_numberOfTrailingZeros_58 : decode b_I_numberOfTrailingZeros 58 = .ok (.iload_n 0, 1) := by decide +kernel
theorem d_I_numberOfTrailingZeros_59 : decode b_I_numberOfTrailingZeros 59 = .ok (.iconst 4, 1) := by decide +kernel
theorem d_I_numberOfTrailingZeros_60 : decode b_I_numberOfTrailingZeros 60 = .ok (.iushr, 1) := by decide +kernel
theorem d_I_numberOfTrailingZeros_61 : decode b_I_numberOfTrailingZeros 61 = .ok (.istore_n 0, 1) := by decide +kernel
theorem d_I_numberOfTrailingZeros_62 : decode b_I_numberOfTrailingZeros 62 = .ok (.iload_n 0, 1) := by decide +kernel
theorem d_I_numberOfTrailingZeros_63 : decode b_I_numberOfTrailingZeros 63 = .ok (.iconst 4, 1) := by decide +kernel
theorem d_I_numberOfTrailingZeros_64 : decode b_I_numberOfTrailingZeros 64 = .ok (.if_icmp .le 10, 3) := by decide +kernel
theorem d_I_numberOfTrailingZeros_67 : decode b_I_numberOfTrailingZeros 67 = .ok (.iinc 1 2, 3) := by decide +kernel
theorem d_I_numberOfTrailingZeros_70 : decode b_I_numberOfTrailingZeros 70 = .ok (.iload_n 0, 1) := by decide +kernel
theorem d_I_numberOfTrailingZeros_71 : decode b_I_numberOfTrailingZeros 71 = .ok (.iconst 2, 1) := by decide +kernel
theorem d_I_numberOfTrailingZeros_72 : decode b_I_numberOfTrailingZeros 72 = .ok (.iushr, 1) := by decide +kernel
theorem d_I_numberOfTrailingZeros_73 : decode b_I_numberOfTrailingZeros 73 = .ok (.istore_n 0, 1) := by decide +kernel
theorem d_I_numberOfTrailingZeros_74 : decode b_I_numberOfTrailingZeros 74 = .ok (.iload_n 1, 1) := by decide +kernel
theorem d_I_numberOfTrailingZeros_75 : decode b_I_numberOfTrailingZeros 75 = .ok (.iload_n 0, 1) := by decide +kernel
theorem d_I_numberOfTrailingZeros_76 : decode b_I_numberOfTrailingZeros 76 = .ok (.iconst 1, 1) := by decide +kernel
theorem d_I_numberOfTrailingZeros_77 : decode b_I_numberOfTrailingZeros 77 = .ok (.iushr, 1) := by decide +kernel
theorem d_I_numberOfTrailingZeros_78 : decode b_I_numberOfTrailingZeros 78 = .ok (.iadd, 1) := by decide +kernel
theorem d_I_numberOfTrailingZeros_79 : decode b_I_numberOfTrailingZeros 79 = .ok (.ireturn, 1) := by decide +kernel
theorem d_L_law_0 : decode code 0 = .ok (.new 7, 3) := by decide +kernel
theorem d_L_law_3 : decode code 3 = .ok (.dup, 1) := by decide +kernel
theorem d_L_law_4 : decode code 4 = .ok (.invokespecial 9, 3) := by decide +kernel
theorem d_L_law_7 : decode code 7 = .ok (.astore_n 1, 1) := by decide +kernel
theorem d_L_law_8 : decode code 8 = .ok (.new 10, 3) := by decide +kernel
theorem d_L_law_11 : decode code 11 = .ok (.dup, 1) := by decide +kernel
theorem d_L_law_12 : decode code 12 = .ok (.invokespecial 12, 3) := by decide +kernel
theorem d_L_law_15 : decode code 15 = .ok (.astore_n 2, 1) := by decide +kernel
theorem d_L_law_16 : decode code 16 = .ok (.iconst 0, 1) := by decide +kernel
theorem d_L_law_17 : decode code 17 = .ok (.istore_n 3, 1) := by decide +kernel
theorem d_L_law_18 : decode code 18 = .ok (.iload_n 3, 1) := by decide +kernel
theorem d_L_law_19 : decode code 19 = .ok (.aload_n 0, 1) := by decide +kernel
theorem d_L_law_20 : decode code 20 = .ok (.arraylength, 1) := by decide +kernel
theorem d_L_law_21 : decode code 21 = .ok (.iconst 3, 1) := by decide +kernel
theorem d_L_law_22 : decode code 22 = .ok (.isub, 1) := by decide +kernel
theorem d_L_law_23 : decode code 23 = .ok (.if_icmp .gt 274, 3) := by decide +kernel
theorem d_L_law_26 : decode code 26 = .ok (.aload_n 0, 1) := by decide +kernel
theorem d_L_law_27 : decode code 27 = .ok (.iload_n 3, 1) := by decide +kernel
theorem d_L_law_28 : decode code 28 = .ok (.iaload, 1) := by decide +kernel
theorem d_L_law_29 : decode code 29 = .ok (.bipush 15, 2) := by decide +kernel
theorem d_L_law_31 : decode code 31 = .ok (.iand, 1) := by decide +kernel
theorem d_L_law_32 : decode code 32 = .ok (.tableswitch 259 0 10 #[60, 81, 114, 127, 148, 161, 184, 197, 210, 223, 236], 60) := by decide +kernel
theorem d_L_law_92 : decode code 92 = .ok (.aload_n 1, 1) := by decide +kernel
theorem d_L_law_93 : decode code 93 = .ok (.aload_n 0, 1) := by decide +kernel
theorem d_L_law_94 : decode code 94 = .ok (.iload_n 3, 1) := by decide +kernel
theorem d_L_law_95 : decode code 95 = .ok (.iconst 1, 1) := by decide +kernel
theorem d_L_law_96 : decode code 96 = .ok (.iadd, 1) := by decide +kernel
theorem d_L_law_97 : decode code 97 = .ok (.iaload, 1) := by decide +kernel
theorem d_L_law_98 : decode code 98 = .ok (.invokevirtual 13, 3) := by decide +kernel
theorem d_L_law_101 : decode code 101 = .ok (.aload_n 2, 1) := by decide +kernel
theorem d_L_law_102 : decode code 102 = .ok (.aload_n 0, 1) := by decide +kernel
theorem d_L_law_103 : decode code 103 = .ok (.iload_n 3, 1) := by decide +kernel
theorem d_L_law_104 : decode code 104 = .ok (.iconst 1, 1) := by decide +kernel
theorem d_L_law_105 : decode code 105 = .ok (.iadd, 1) := by decide +kernel
theorem d_L_law_106 : decode code 106 = .ok (.iaload, 1) := by decide +kernel
theorem d_L_law_107 : decode code 107 = .ok (.invokevirtual 17, 3) := by decide +kernel
theorem d_L_law_110 : decode code 110 = .ok (.goto 181, 3) := by decide +kernel
theorem d_L_law_113 : decode code 113 = .ok (.aload_n 1, 1) := by decide +kernel
theorem d_L_law_114 : decode code 114 = .ok (.aload_n 0, 1) := by decide +kernel
theorem d_L_law_115 : decode code 115 = .ok (.iload_n 3, 1) := by decide +kernel
theorem d_L_law_116 : decode code 116 = .ok (.iconst 1, 1) := by decide +kernel
theorem d_L_law_117 : decode code 117 = .ok (.iadd, 1) := by decide +kernel
theorem d_L_law_118 : decode code 118 = .ok (.iaload, 1) := by decide +kernel
theorem d_L_law_119 : decode code 119 = .ok (.aload_n 0, 1) := by decide +kernel
theorem d_L_law_120 : decode code 120 = .ok (.iload_n 3, 1) := by decide +kernel
theorem d_L_law_121 : decode code 121 = .ok (.iconst 2, 1) := by decide +kernel
theorem d_L_law_122 : decode code 122 = .ok (.iadd, 1) := by decide +kernel
theorem d_L_law_123 : decode code 123 = .ok (.iaload, 1) := by decide +kernel
theorem d_L_law_124 : decode code 124 = .ok (.invokevirtual 18, 3) := by decide +kernel
theorem d_L_law_127 : decode code 127 = .ok (.aload_n 2, 1) := by decide +kernel
theorem d_L_law_128 : decode code 128 = .ok (.aload_n 0, 1) := by decide +kernel
theorem d_L_law_129 : decode code 129 = .ok (.iload_n 3, 1) := by decide +kernel
theorem d_L_law_130 : decode code 130 = .ok (.iconst 1, 1) := by decide +kernel
theorem d_L_law_131 : decode code 131 = .ok (.iadd, 1) := by decide +kernel
theorem d_L_law_132 : decode code 132 = .ok (.iaload, 1) := by decide +kernel
theorem d_L_law_133 : decode code 133 = .ok (.aload_n 0, 1) := by decide +kernel
theorem d_L_law_134 : decode code 134 = .ok (.iload_n 3, 1) := by decide +kernel
theorem d_L_law_135 : decode code 135 = .ok (.iconst 2, 1) := by decide +kernel
theorem d_L_law_136 : decode code 136 = .ok (.iadd, 1) := by decide +kernel
theorem d_L_law_137 : decode code 137 = .ok (.iaload, 1) := by decide +kernel
theorem d_L_law_138 : decode code 138 = .ok (.invokevirtual 22, 3) := by decide +kernel
theorem d_L_law_141 : decode code 141 = .ok (.if_icmp .eq 150, 3) := by decide +kernel
theorem d_L_law_144 : decode code 144 = .ok (.iconst 0, 1) := by decide +kernel
theorem d_L_law_145 : decode code 145 = .ok (.ireturn, 1) := by decide +kernel
theorem d_L_law_146 : decode code 146 = .ok (.aload_n 1, 1) := by decide +kernel
theorem d_L_law_147 : decode code 147 = .ok (.invokevirtual 23, 3) := by decide +kernel
theorem d_L_law_150 : decode code 150 = .ok (.aload_n 2, 1) := by decide +kernel
theorem d_L_law_151 : decode code 151 = .ok (.invokevirtual 27, 3) := by decide +kernel
theorem d_L_law_154 : decode code 154 = .ok (.if_icmp .eq 137, 3) := by decide +kernel
theorem d_L_law_157 : decode code 157 = .ok (.iconst 0, 1) := by decide +kernel
theorem d_L_law_158 : decode code 158 = .ok (.ireturn, 1) := by decide +kernel
theorem d_L_law_159 : decode code 159 = .ok (.aload_n 1, 1) := by decide +kernel
theorem d_L_law_160 : decode code 160 = .ok (.aload_n 0, 1) := by decide +kernel
theorem d_L_law_161 : decode code 161 = .ok (.iload_n 3, 1) := by decide +kernel
theorem d_L_law_162 : decode code 162 = .ok (.iconst 1, 1) := by decide +kernel
theorem d_L_law_163 : decode code 163 = .ok (.iadd, 1) := by decide +kernel
theorem d_L_law_164 : decode code 164 = .ok (.iaload, 1) := by decide +kernel
theorem d_L_law_165 : decode code 165 = .ok (.invokevirtual 28, 3) := by decide +kernel
theorem d_L_law_168 : decode code 168 = .ok (.aload_n 2, 1) := by decide +kernel
theorem d_L_law_169 : decode code 169 = .ok (.aload_n 0, 1) := by decide +kernel
theorem d_L_law_170 : decode code 170 = .ok (.iload_n 3, 1) := by decide +kernel
theorem d_L_law_171 : decode code 171 = .ok (.iconst 1, 1) := by decide +kernel
theorem d_L_law_172 : decode code 172 = .ok (.iadd, 1) := by decide +kernel
theorem d_L_law_173 : decode code 173 = .ok (.iaload, 1) := by decide +kernel
theorem d_L_law_174 : decode code 174 = .ok (.invokevirtual 31, 3) := by decide +kernel
theorem d_L_law_177 : decode code 177 = .ok (.goto 114, 3) := by decide +kernel
theorem d_L_law_180 : decode code 180 = .ok (.aload_n 1, 1) := by decide +kernel
theorem d_L_law_181 : decode code 181 = .ok (.invokevirtual 32, 3) := by decide +kernel
theorem d_L_law_184 : decode code 184 = .ok (.aload_n 2, 1) := by decide +kernel
theorem d_L_law_185 : decode code 185 = .ok (.invokevirtual 36, 3) := by decide +kernel
theorem d_L_law_188 : decode code 188 = .ok (.if_icmp .eq 103, 3) := by decide +kernel
theorem d_L_law_191 : decode code 191 = .ok (.iconst 0, 1) := by decide +kernel
theorem d_L_law_192 : decode code 192 = .ok (.ireturn, 1) := by decide +kernel
theorem d_L_law_193 : decode code 193 = .ok (.aload_n 1, 1) := by decide +kernel
theorem d_L_law_194 : decode code 194 = .ok (.aload_n 0, 1) := by decide +kernel
theorem d_L_law_195 : decode code 195 = .ok (.iload_n 3, 1) := by decide +kernel
theorem d_L_law_196 : decode code 196 = .ok (.iconst 1, 1) := by decide +kernel
theorem d_L_law_197 : decode code 197 = .ok (.iadd, 1) := by decide +kernel
theorem d_L_law_198 : decode code 198 = .ok (.iaload, 1) := by decide +kernel
theorem d_L_law_199 : decode code 199 = .ok (.invokevirtual 37, 3) := by decide +kernel
theorem d_L_law_202 : decode code 202 = .ok (.aload_n 2, 1) := by decide +kernel
theorem d_L_law_203 : decode code 203 = .ok (.aload_n 0, 1) := by decide +kernel
theorem d_L_law_204 : decode code 204 = .ok (.iload_n 3, 1) := by decide +kernel
theorem d_L_law_205 : decode code 205 = .ok (.iconst 1, 1) := by decide +kernel
theorem d_L_law_206 : decode code 206 = .ok (.iadd, 1) := by decide +kernel
theorem d_L_law_207 : decode code 207 = .ok (.iaload, 1) := by decide +kernel
theorem d_L_law_208 : decode code 208 = .ok (.invokevirtual 41, 3) := by decide +kernel
theorem d_L_law_211 : decode code 211 = .ok (.if_icmp .eq 80, 3) := by decide +kernel
theorem d_L_law_214 : decode code 214 = .ok (.iconst 0, 1) := by decide +kernel
theorem d_L_law_215 : decode code 215 = .ok (.ireturn, 1) := by decide +kernel
theorem d_L_law_216 : decode code 216 = .ok (.aload_n 1, 1) := by decide +kernel
theorem d_L_law_217 : decode code 217 = .ok (.invokevirtual 42, 3) := by decide +kernel
theorem d_L_law_220 : decode code 220 = .ok (.aload_n 2, 1) := by decide +kernel
theorem d_L_law_221 : decode code 221 = .ok (.invokevirtual 45, 3) := by decide +kernel
theorem d_L_law_224 : decode code 224 = .ok (.if_icmp .eq 67, 3) := by decide +kernel
theorem d_L_law_227 : decode code 227 = .ok (.iconst 0, 1) := by decide +kernel
theorem d_L_law_228 : decode code 228 = .ok (.ireturn, 1) := by decide +kernel
theorem d_L_law_229 : decode code 229 = .ok (.aload_n 1, 1) := by decide +kernel
theorem d_L_law_230 : decode code 230 = .ok (.invokevirtual 46, 3) := by decide +kernel
theorem d_L_law_233 : decode code 233 = .ok (.aload_n 2, 1) := by decide +kernel
theorem d_L_law_234 : decode code 234 = .ok (.invokevirtual 49, 3) := by decide +kernel
theorem d_L_law_237 : decode code 237 = .ok (.if_icmp .eq 54, 3) := by decide +kernel
theorem d_L_law_240 : decode code 240 = .ok (.iconst 0, 1) := by decide +kernel
theorem d_L_law_241 : decode code 241 = .ok (.ireturn, 1) := by decide +kernel
theorem d_L_law_242 : decode code 242 = .ok (.aload_n 1, 1) := by decide +kernel
theorem d_L_law_243 : decode code 243 = .ok (.invokevirtual 50, 3) := by decide +kernel
theorem d_L_law_246 : decode code 246 = .ok (.aload_n 2, 1) := by decide +kernel
theorem d_L_law_247 : decode code 247 = .ok (.invokevirtual 53, 3) := by decide +kernel
theorem d_L_law_250 : decode code 250 = .ok (.if_icmp .eq 41, 3) := by decide +kernel
theorem d_L_law_253 : decode code 253 = .ok (.iconst 0, 1) := by decide +kernel
theorem d_L_law_254 : decode code 254 = .ok (.ireturn, 1) := by decide +kernel
theorem d_L_law_255 : decode code 255 = .ok (.aload_n 1, 1) := by decide +kernel
theorem d_L_law_256 : decode code 256 = .ok (.invokevirtual 54, 3) := by decide +kernel
theorem d_L_law_259 : decode code 259 = .ok (.aload_n 2, 1) := by decide +kernel
theorem d_L_law_260 : decode code 260 = .ok (.invokevirtual 57, 3) := by decide +kernel
theorem d_L_law_263 : decode code 263 = .ok (.if_icmp .eq 28, 3) := by decide +kernel
theorem d_L_law_266 : decode code 266 = .ok (.iconst 0, 1) := by decide +kernel
theorem d_L_law_267 : decode code 267 = .ok (.ireturn, 1) := by decide +kernel
theorem d_L_law_268 : decode code 268 = .ok (.aload_n 1, 1) := by decide +kernel
theorem d_L_law_269 : decode code 269 = .ok (.aload_n 0, 1) := by decide +kernel
theorem d_L_law_270 : decode code 270 = .ok (.iload_n 3, 1) := by decide +kernel
theorem d_L_law_271 : decode code 271 = .ok (.iconst 1, 1) := by decide +kernel
theorem d_L_law_272 : decode code 272 = .ok (.iadd, 1) := by decide +kernel
theorem d_L_law_273 : decode code 273 = .ok (.iaload, 1) := by decide +kernel
theorem d_L_law_274 : decode code 274 = .ok (.invokevirtual 58, 3) := by decide +kernel
theorem d_L_law_277 : decode code 277 = .ok (.aload_n 2, 1) := by decide +kernel
theorem d_L_law_278 : decode code 278 = .ok (.aload_n 0, 1) := by decide +kernel
theorem d_L_law_279 : decode code 279 = .ok (.iload_n 3, 1) := by decide +kernel
theorem d_L_law_280 : decode code 280 = .ok (.iconst 1, 1) := by decide +kernel
theorem d_L_law_281 : decode code 281 = .ok (.iadd, 1) := by decide +kernel
theorem d_L_law_282 : decode code 282 = .ok (.iaload, 1) := by decide +kernel
theorem d_L_law_283 : decode code 283 = .ok (.invokevirtual 61, 3) := by decide +kernel
theorem d_L_law_286 : decode code 286 = .ok (.if_icmp .eq 5, 3) := by decide +kernel
theorem d_L_law_289 : decode code 289 = .ok (.iconst 0, 1) := by decide +kernel
theorem d_L_law_290 : decode code 290 = .ok (.ireturn, 1) := by decide +kernel
theorem d_L_law_291 : decode code 291 = .ok (.iinc 3 3, 3) := by decide +kernel
theorem d_L_law_294 : decode code 294 = .ok (.goto (-276), 3) := by decide +kernel
theorem d_L_law_297 : decode code 297 = .ok (.iconst 1, 1) := by decide +kernel
theorem d_L_law_298 : decode code 298 = .ok (.ireturn, 1) := by decide +kernel
end
section
/-! ROWS OF MY OWN over the kit's: numbers that are nI of a natural number; fields; calls -/
/-- k - 1, for a loop that goes down to -1 -/
def dI (j : Nat) : Int32 := nI j - 1
theorem dI_succ (j : Nat) : dI (j + 1) = nI j := nI_pred j
theorem dI_zero : dI 0 = -1 := by decide
theorem dI_dec (j : Nat) : nI j + Int32.ofInt (-1) = dI j := by
  rw [dI, Int32.sub_eq_add_neg]; rfl
theorem dI_neg : dI 0 < 0 := by decide
theorem zn_and (a b : Nat) : nI a &&& nI b = nI (a &&& b) := by
  apply Int32.toBitVec_inj.mp
  apply BitVec.eq_of_getLsbD_eq
  intro i hi
  simp [nI, Int32.toBitVec_and, BitVec.getLsbD_ofNat, hi]
theorem zn_or (a b : Nat) : nI a ||| nI b = nI (a ||| b) := by
  apply Int32.toBitVec_inj.mp
  apply BitVec.eq_of_getLsbD_eq
  intro i hi
  simp [nI, Int32.toBitVec_or, BitVec.getLsbD_ofNat, hi]
theorem zn_xor (a b : Nat) : nI a ^^^ nI b = nI (a ^^^ b) := by
  apply Int32.toBitVec_inj.mp
  apply BitVec.eq_of_getLsbD_eq
  intro i hi
  simp [nI, Int32.toBitVec_xor, BitVec.getLsbD_ofNat, hi]
theorem zn_sl : ∀ k, k < 32 → ((nI k &&& 31).toBitVec.smod 32).toNat = k := by decide +kernel
theorem zn_shl {a k : Nat} (hk : k < 32) (h : a * 2 ^ k < 2 ^ 32) : nI a <<< (nI k &&& 31) = nI (a * 2 ^ k) := pk_shlN _ k (zn_sl k hk) h
theorem zn_shr {a k : Nat} (ha : a < 2 ^ 31) (hk : k < 32) : nI a >>> (nI k &&& 31) = nI (a / 2 ^ k) := pk_shrN ha _ k (zn_sl k hk)
theorem zn_max (x : Int32) : x &&& (2147483647 : Int32) = nI (x.toBitVec.toNat % 2 ^ 31) := pk_and x 31 (by decide)
theorem zn_and1 {a : Nat} : nI a &&& nI 1 = nI (a % 2) := by
  rw [zn_and, Nat.and_one_is_mod]
theorem zn_and7 {a : Nat} : nI a &&& nI 7 = nI (a % 8) := by
  rw [zn_and, show (7 : Nat) = 2 ^ 3 - 1 from rfl, Nat.and_two_pow_sub_one_eq_mod]
/-- the place that a number means among n -/
def zn_pl (a : Int32) (n : Nat) : Nat := a.toBitVec.toNat % 2 ^ 31 % n
theorem zn_plt (a : Int32) {n : Nat} (h : 0 < n) : zn_pl a n < n := Nat.mod_lt _ h
section RW
variable {p : Program} {l : Launch} {e : Env} {R : Room} {s : State} {m : MethodId} {args : Array Value} {below : List Frame} {meth : Method} {c : Code} {H : Heap} {locs : List Loc} {cells slots : Nat} {Q : State → Prop}
variable {cc : ByteArray} {pc : Nat} {ls : Array Slot} {rest : List Value}
theorem rw_top {x y : Int32} (h : x = y) (k : W p l e R s m args below meth c H locs cells slots Q (F0 m pc ls (.int y :: rest))) : W p l e R s m args below meth c H locs cells slots Q (F0 m pc ls (.int x :: rest)) := h ▸ k
theorem rw_iadd (hx : p.tables.exec = Jvm.exec) (hb : c.code = cc) {a b r : Nat} (hdg : decode cc pc = .ok (.iadd, 1)) (he : a + b = r) (k : W p l e R s m args below meth c H locs cells slots Q (F0 m (pc + 1) ls (.int (nI r) :: rest))) : W p l e R s m args below meth c H locs cells slots Q (F0 m pc ls (.int (nI b) :: .int (nI a) :: rest)) :=
  lv_iadd hx hb hdg (rw_top (by rw [nI_add, he]) k)
theorem rw_isub (hx : p.tables.exec = Jvm.exec) (hb : c.code = cc) {a b r : Nat} (hdg : decode cc pc = .ok (.isub, 1)) (he : a = r + b) (k : W p l e R s m args below meth c H locs cells slots Q (F0 m (pc + 1) ls (.int (nI r) :: rest))) : W p l e R s m args below meth c H locs cells slots Q (F0 m pc ls (.int (nI b) :: .int (nI a) :: rest)) :=
  lv_isub hx hb hdg (rw_top (by rw [he, pk_sub (by omega), show r + b - b = r by omega]) k)
theorem rw_isubD (hx : p.tables.exec = Jvm.exec) (hb : c.code = cc) {a : Nat} (hdg : decode cc pc = .ok (.isub, 1)) (k : W p l e R s m args below meth c H locs cells slots Q (F0 m (pc + 1) ls (.int (dI a) :: rest))) : W p l e R s m args below meth c H locs cells slots Q (F0 m pc ls (.int (nI 1) :: .int (nI a) :: rest)) :=
  lv_isub hx hb hdg k
theorem rw_imul (hx : p.tables.exec = Jvm.exec) (hb : c.code = cc) {a b r : Nat} (hdg : decode cc pc = .ok (.imul, 1)) (he : a * b = r) (k : W p l e R s m args below meth c H locs cells slots Q (F0 m (pc + 1) ls (.int (nI r) :: rest))) : W p l e R s m args below meth c H locs cells slots Q (F0 m pc ls (.int (nI b) :: .int (nI a) :: rest)) :=
  lv_imul hx hb hdg (rw_top (by rw [pk_mul, he]) k)
theorem rw_idiv (hx : p.tables.exec = Jvm.exec) (hb : c.code = cc) {a b r : Nat} (hdg : decode cc pc = .ok (.idiv, 1)) (h0 : 0 < b) (h1 : a < 2 ^ 31) (h2 : b < 2 ^ 31) (he : a / b = r) (k : W p l e R s m args below meth c H locs cells slots Q (F0 m (pc + 1) ls (.int (nI r) :: rest))) : W p l e R s m args below meth c H locs cells slots Q (F0 m pc ls (.int (nI b) :: .int (nI a) :: rest)) :=
  lv_idiv hx hb hdg (nI_ne0 h0 h2) (rw_top (by rw [pk_div h1 h0 h2, he]) k)
theorem rw_irem (hx : p.tables.exec = Jvm.exec) (hb : c.code = cc) {a b r : Nat} (hdg : decode cc pc = .ok (.irem, 1)) (h0 : 0 < b) (h1 : a < 2 ^ 31) (h2 : b < 2 ^ 31) (he : a % b = r) (k : W p l e R s m args below meth c H locs cells slots Q (F0 m (pc + 1) ls (.int (nI r) :: rest))) : W p l e R s m args below meth c H locs cells slots Q (F0 m pc ls (.int (nI b) :: .int (nI a) :: rest)) :=
  lv_irem hx hb hdg (nI_ne0 h0 h2) (rw_top (by rw [pk_rem h1 h0 h2, he]) k)
theorem rw_iand (hx : p.tables.exec = Jvm.exec) (hb : c.code = cc) {a b r : Nat} (hdg : decode cc pc = .ok (.iand, 1)) (he : a &&& b = r) (k : W p l e R s m args below meth c H locs cells slots Q (F0 m (pc + 1) ls (.int (nI r) :: rest))) : W p l e R s m args below meth c H locs cells slots Q (F0 m pc ls (.int (nI b) :: .int (nI a) :: rest)) :=
  lv_iand hx hb hdg (rw_top (by rw [zn_and, he]) k)
theorem rw_ior (hx : p.tables.exec = Jvm.exec) (hb : c.code = cc) {a b r : Nat} (hdg : decode cc pc = .ok (.ior, 1)) (he : a ||| b = r) (k : W p l e R s m args below meth c H locs cells slots Q (F0 m (pc + 1) ls (.int (nI r) :: rest))) : W p l e R s m args below meth c H locs cells slots Q (F0 m pc ls (.int (nI b) :: .int (nI a) :: rest)) :=
  lv_ior hx hb hdg (rw_top (by rw [zn_or, he]) k)
theorem rw_ixor (hx : p.tables.exec = Jvm.exec) (hb : c.code = cc) {a b r : Nat} (hdg : decode cc pc = .ok (.ixor, 1)) (he : a ^^^ b = r) (k : W p l e R s m args below meth c H locs cells slots Q (F0 m (pc + 1) ls (.int (nI r) :: rest))) : W p l e R s m args below meth c H locs cells slots Q (F0 m pc ls (.int (nI b) :: .int (nI a) :: rest)) :=
  lv_ixor hx hb hdg (rw_top (by rw [zn_xor, he]) k)
theorem rw_ishl (hx : p.tables.exec = Jvm.exec) (hb : c.code = cc) {a b r : Nat} (hdg : decode cc pc = .ok (.ishl, 1)) (hk : b < 32) (he : a * 2 ^ b = r) (h : r < 2 ^ 32) (k : W p l e R s m args below meth c H locs cells slots Q (F0 m (pc + 1) ls (.int (nI r) :: rest))) : W p l e R s m args below meth c H locs cells slots Q (F0 m pc ls (.int (nI b) :: .int (nI a) :: rest)) :=
  lv_ishl hx hb hdg (rw_top (by rw [zn_shl hk (by rw [he]; exact h), he]) k)
theorem rw_ishr (hx : p.tables.exec = Jvm.exec) (hb : c.code = cc) {a b r : Nat} (hdg : decode cc pc = .ok (.ishr, 1)) (hk : b < 32) (ha : a < 2 ^ 31) (he : a / 2 ^ b = r) (k : W p l e R s m args below meth c H locs cells slots Q (F0 m (pc + 1) ls (.int (nI r) :: rest))) : W p l e R s m args below meth c H locs cells slots Q (F0 m pc ls (.int (nI b) :: .int (nI a) :: rest)) :=
  lv_ishr hx hb hdg (rw_top (by rw [zn_shr ha hk, he]) k)
theorem rw_ceq (hx : p.tables.exec = Jvm.exec) (hb : c.code = cc) {a b : Nat} {off : Int} {tgt : Nat} (hdg : decode cc pc = .ok (.if_icmp .eq off, 3)) (ht : (pc : Int) + off = (tgt : Int)) (ha : a < 2 ^ 31) (hb2 : b < 2 ^ 31)
    (kt : a = b → W p l e R s m args below meth c H locs cells slots Q (F0 m tgt ls rest)) (kf : a ≠ b → W p l e R s m args below meth c H locs cells slots Q (F0 m (pc + 3) ls rest)) : W p l e R s m args below meth c H locs cells slots Q (F0 m pc ls (.int (nI b) :: .int (nI a) :: rest)) :=
  lv_icmp_eq hx hb hdg ht (fun h => kt ((nI_eq ha hb2).mp h)) (fun h => kf (fun q => h ((nI_eq ha hb2).mpr q)))
theorem rw_cne (hx : p.tables.exec = Jvm.exec) (hb : c.code = cc) {a b : Nat} {off : Int} {tgt : Nat} (hdg : decode cc pc = .ok (.if_icmp .ne off, 3)) (ht : (pc : Int) + off = (tgt : Int)) (ha : a < 2 ^ 31) (hb2 : b < 2 ^ 31)
    (kt : a ≠ b → W p l e R s m args below meth c H locs cells slots Q (F0 m tgt ls rest)) (kf : a = b → W p l e R s m args below meth c H locs cells slots Q (F0 m (pc + 3) ls rest)) : W p l e R s m args below meth c H locs cells slots Q (F0 m pc ls (.int (nI b) :: .int (nI a) :: rest)) :=
  lv_icmp_ne hx hb hdg ht (fun h => kt (fun q => h ((nI_eq ha hb2).mpr q))) (fun h => kf ((nI_eq ha hb2).mp h))
theorem rw_clt (hx : p.tables.exec = Jvm.exec) (hb : c.code = cc) {a b : Nat} {off : Int} {tgt : Nat} (hdg : decode cc pc = .ok (.if_icmp .lt off, 3)) (ht : (pc : Int) + off = (tgt : Int)) (ha : a < 2 ^ 31) (hb2 : b < 2 ^ 31)
    (kt : a < b → W p l e R s m args below meth c H locs cells slots Q (F0 m tgt ls rest)) (kf : b ≤ a → W p l e R s m args below meth c H locs cells slots Q (F0 m (pc + 3) ls rest)) : W p l e R s m args below meth c H locs cells slots Q (F0 m pc ls (.int (nI b) :: .int (nI a) :: rest)) :=
  lv_icmp_lt hx hb hdg ht (fun h => kt ((nI_ltI ha hb2).mp h)) (fun h => kf (Nat.not_lt.mp (fun q => h ((nI_ltI ha hb2).mpr q))))
theorem rw_cge (hx : p.tables.exec = Jvm.exec) (hb : c.code = cc) {a b : Nat} {off : Int} {tgt : Nat} (hdg : decode cc pc = .ok (.if_icmp .ge off, 3)) (ht : (pc : Int) + off = (tgt : Int)) (ha : a < 2 ^ 31) (hb2 : b < 2 ^ 31)
    (kt : b ≤ a → W p l e R s m args below meth c H locs cells slots Q (F0 m tgt ls rest)) (kf : a < b → W p l e R s m args below meth c H locs cells slots Q (F0 m (pc + 3) ls rest)) : W p l e R s m args below meth c H locs cells slots Q (F0 m pc ls (.int (nI b) :: .int (nI a) :: rest)) :=
  lv_icmp_ge hx hb hdg ht (fun h => kt ((nI_leI hb2 ha).mp h)) (fun h => kf (Nat.not_le.mp (fun q => h ((nI_leI hb2 ha).mpr q))))
theorem rw_cgt (hx : p.tables.exec = Jvm.exec) (hb : c.code = cc) {a b : Nat} {off : Int} {tgt : Nat} (hdg : decode cc pc = .ok (.if_icmp .gt off, 3)) (ht : (pc : Int) + off = (tgt : Int)) (ha : a < 2 ^ 31) (hb2 : b < 2 ^ 31)
    (kt : b < a → W p l e R s m args below meth c H locs cells slots Q (F0 m tgt ls rest)) (kf : a ≤ b → W p l e R s m args below meth c H locs cells slots Q (F0 m (pc + 3) ls rest)) : W p l e R s m args below meth c H locs cells slots Q (F0 m pc ls (.int (nI b) :: .int (nI a) :: rest)) :=
  lv_icmp_gt hx hb hdg ht (fun h => kt ((nI_ltI hb2 ha).mp h)) (fun h => kf (Nat.not_lt.mp (fun q => h ((nI_ltI hb2 ha).mpr q))))
theorem rw_cle (hx : p.tables.exec = Jvm.exec) (hb : c.code = cc) {a b : Nat} {off : Int} {tgt : Nat} (hdg : decode cc pc = .ok (.if_icmp .le off, 3)) (ht : (pc : Int) + off = (tgt : Int)) (ha : a < 2 ^ 31) (hb2 : b < 2 ^ 31)
    (kt : a ≤ b → W p l e R s m args below meth c H locs cells slots Q (F0 m tgt ls rest)) (kf : b < a → W p l e R s m args below meth c H locs cells slots Q (F0 m (pc + 3) ls rest)) : W p l e R s m args below meth c H locs cells slots Q (F0 m pc ls (.int (nI b) :: .int (nI a) :: rest)) :=
  lv_icmp_le hx hb hdg ht (fun h => kt ((nI_leI ha hb2).mp h)) (fun h => kf (Nat.not_le.mp (fun q => h ((nI_leI ha hb2).mpr q))))
theorem rw_zeq (hx : p.tables.exec = Jvm.exec) (hb : c.code = cc) {a : Nat} {off : Int} {tgt : Nat} (hdg : decode cc pc = .ok (.ifCond .eq off, 3)) (ht : (pc : Int) + off = (tgt : Int)) (ha : a < 2 ^ 31)
    (kt : a = 0 → W p l e R s m args below meth c H locs cells slots Q (F0 m tgt ls rest)) (kf : a ≠ 0 → W p l e R s m args below meth c H locs cells slots Q (F0 m (pc + 3) ls rest)) : W p l e R s m args below meth c H locs cells slots Q (F0 m pc ls (.int (nI a) :: rest)) :=
  lv_if_eq hx hb hdg ht (fun h => kt ((nI_eq ha (by omega : 0 < 2 ^ 31)).mp h)) (fun h => kf (fun q => h (by rw [q]; rfl)))
theorem rw_zne (hx : p.tables.exec = Jvm.exec) (hb : c.code = cc) {a : Nat} {off : Int} {tgt : Nat} (hdg : decode cc pc = .ok (.ifCond .ne off, 3)) (ht : (pc : Int) + off = (tgt : Int)) (ha : a < 2 ^ 31)
    (kt : a ≠ 0 → W p l e R s m args below meth c H locs cells slots Q (F0 m tgt ls rest)) (kf : a = 0 → W p l e R s m args below meth c H locs cells slots Q (F0 m (pc + 3) ls rest)) : W p l e R s m args below meth c H locs cells slots Q (F0 m pc ls (.int (nI a) :: rest)) :=
  lv_if_ne hx hb hdg ht (fun h => kt (fun q => h (by rw [q]; rfl))) (fun h => kf ((nI_eq ha (by omega : 0 < 2 ^ 31)).mp h))
theorem rw_dlt0 (hx : p.tables.exec = Jvm.exec) (hb : c.code = cc) {off : Int} {tgt : Nat} (hdg : decode cc pc = .ok (.ifCond .lt off, 3)) (ht : (pc : Int) + off = (tgt : Int))
    (kt : W p l e R s m args below meth c H locs cells slots Q (F0 m tgt ls rest)) : W p l e R s m args below meth c H locs cells slots Q (F0 m pc ls (.int (dI 0) :: rest)) :=
  lv_if_lt hx hb hdg ht (fun _ => kt) (fun h => absurd dI_neg h)
theorem rw_dlt1 (hx : p.tables.exec = Jvm.exec) (hb : c.code = cc) {a : Nat} {off : Int} {tgt : Nat} (hdg : decode cc pc = .ok (.ifCond .lt off, 3)) (ht : (pc : Int) + off = (tgt : Int)) (ha : a < 2 ^ 31)
    (kf : W p l e R s m args below meth c H locs cells slots Q (F0 m (pc + 3) ls rest)) : W p l e R s m args below meth c H locs cells slots Q (F0 m pc ls (.int (nI a) :: rest)) :=
  lv_if_lt hx hb hdg ht (fun h => absurd h (nI_pos ha)) (fun _ => kf)
theorem rw_dge0 (hx : p.tables.exec = Jvm.exec) (hb : c.code = cc) {off : Int} {tgt : Nat} (hdg : decode cc pc = .ok (.ifCond .ge off, 3)) (ht : (pc : Int) + off = (tgt : Int))
    (kf : W p l e R s m args below meth c H locs cells slots Q (F0 m (pc + 3) ls rest)) : W p l e R s m args below meth c H locs cells slots Q (F0 m pc ls (.int (dI 0) :: rest)) :=
  lv_if_ge hx hb hdg ht (fun h => absurd h (by decide)) (fun _ => kf)
theorem rw_dge1 (hx : p.tables.exec = Jvm.exec) (hb : c.code = cc) {a : Nat} {off : Int} {tgt : Nat} (hdg : decode cc pc = .ok (.ifCond .ge off, 3)) (ht : (pc : Int) + off = (tgt : Int)) (ha : a < 2 ^ 31)
    (kt : W p l e R s m args below meth c H locs cells slots Q (F0 m tgt ls rest)) : W p l e R s m args below meth c H locs cells slots Q (F0 m pc ls (.int (nI a) :: rest)) :=
  lv_if_ge hx hb hdg ht (fun _ => kt) (fun h => absurd (nI_pos' ha) h)
end RW
/-! the world of a call: what its cells are at its start and at its end -/
def wd_R (D : va_G) (cA : ClassId) (ws : va_W) (U : State) : Prop := va_P D classes ws U.heap ∧ va_K D classes [(cA, .int)] U
def wd_Z (D : va_G) (cA : ClassId) (sz : Nat) (ws : va_W) (U : State) : Prop := U.heap.size = sz ∧ va_P D classes ws U.heap ∧ va_K D classes [(cA, .int)] U ∧ va_D (fun _ => True) ws
def wd_M (D : va_G) (cA : ClassId) (sz : Nat) (ws : va_W) (U : State) : Prop := U.heap.size = sz ∧ va_P D classes ws U.heap ∧ va_K D classes [(cA, .int)] U
def wd_T (D : va_G) (cA : ClassId) (A : Nat → Prop) (ws : va_W) (t : State) : Prop := va_P D classes ws t.heap ∧ va_K D classes [(cA, .int)] t ∧ va_D A ws
section PRE
variable {s : State} {H : Heap} {D : va_G} {cA : ClassId} {ws wc : va_W} {A : Nat → Prop} {C : String} {b : Addr} {As av : List Value}
theorem bl_R : FrameBlind (va_Pc av (wd_R D cA ws)) := fun a U g mk q => ⟨q.1, q.2.1, va_K.moved (u := U) (U := U.calling g mk a) (Vm.Alike.refl U.vm) q.2.2⟩
theorem bl_Z {sz : Nat} : FrameBlind (va_Pc av (wd_Z D cA sz ws)) := fun a U g mk q => ⟨q.1, q.2.1, q.2.2.1, va_K.moved (u := U) (U := U.calling g mk a) (Vm.Alike.refl U.vm) q.2.2.2.1, q.2.2.2.2⟩
theorem bl_M {sz : Nat} : FrameBlind (va_Pc av (wd_M D cA sz ws)) := fun a U g mk q => ⟨q.1, q.2.1, q.2.2.1, va_K.moved (u := U) (U := U.calling g mk a) (Vm.Alike.refl U.vm) q.2.2.2⟩
theorem pr_R (hP : va_P D classes ws H) (hK : va_K D classes [(cA, .int)] s) (is : List Nat) (hs : is.filterMap (fun i => ws[i]?) = wc) : PreS s H (va_Pc av (wd_R D cA wc)) av := ⟨bl_R, fun U hU hW => ⟨rfl, by rw [hU]; exact hP.sub is hs, va_K.moved hW.alike hK⟩⟩
theorem pr_M (hP : va_P D classes ws H) (hK : va_K D classes [(cA, .int)] s) (is : List Nat) (hs : is.filterMap (fun i => ws[i]?) = wc) : PreS s H (va_Pc av (wd_M D cA H.size wc)) av := ⟨bl_M, fun U hU hW => ⟨rfl, by rw [hU], by rw [hU]; exact hP.sub is hs, va_K.moved hW.alike hK⟩⟩
theorem pr_Z (hP : va_P D classes ws H) (hK : va_K D classes [(cA, .int)] s) (hD : va_D A ws) (is : List Nat) (hs : is.filterMap (fun i => ws[i]?) = wc) (hn : va_nd is = true) (hm : is.map (fun i => ws[i]?) = wc.map some) : PreS s H (va_Pc av (wd_Z D cA H.size wc)) av := ⟨bl_Z, fun U hU hW => ⟨rfl, by rw [hU], by rw [hU]; exact hP.sub is hs, va_K.moved hW.alike hK, (hD.sub is hn hm).weaken (fun _ _ _ _ => trivial)⟩⟩
/-- the receiver is an object of its class -/
theorem pr_V {Pc : Array Value → State → Prop} {q0 ci : Nat} {q : vw_C} {fs : List Value} (hp : PreS s H Pc (.ref b :: As)) (hP : va_P D classes ws H) (hK : va_K D classes [(cA, .int)] s) (hc : classes[ci]? = some q) (hC : q.1 = C) (he : ws[q0]? = some (b, .inr (ci, fs))) : PreV s H C b Pc As :=
  ⟨hp.1, by rw [← hC]; exact va_recv hK hP hc he, hp.2⟩
end PRE
/-! calls -/
section CL
variable {p : Program} {l : Launch} {e : Env} {R : Room} {s : State} {m : MethodId} {args : Array Value} {below : List Frame} {meth : Method} {c : Code} {H : Heap} {locs : List Loc} {cells slots : Nat} {Q : State → Prop}
variable {cc bytes : ByteArray} {pc nL maxL n index mc ms : Nat} {ls : Array Slot} {rest st As : List Value} {y : MethodName} {own C : String} {ret : Option FieldType} {rm : Room} {Pc : Array Value → State → Prop} {Qc : Array Value → State → Outcome → State → Prop} {free : Addr → Prop} {b : Addr} {r : Int32}
theorem cb_of (ht : ∀ w ∈ lw_g, w.before args s = true) (hB : md_B y bytes maxL ret n) (hrc : rm.cells = mc) (hrs : rm.slots = ms) (hl : Cond.methodLink own index y ∈ lw_g) (hR : rm.frames + 1 ≤ R.frames ∧ 8 + (maxL + 11) + rm.locals ≤ R.locals) : CallB R s args own index y bytes maxL ret (Cond.code y bytes maxL ret :: lw_g) rm mc ms n :=
  callB_of n ht (gd_in hB.1) rfl hrc hrs (ht _ hB.2.1) (ht _ hl) hB.2.2 hR
/-- a call of an instance method that reads: its answer is r -/
theorem rc_V (S : p.tables.exec = Jvm.exec ∧ c.code = cc ∧ c.maxLocals = nL ∧ s.vm.findClass own = some m.cls ∧ ∀ w ∈ lw_g, w.before args s = true) (hM : Met l y (Cond.code y bytes maxL ret :: lw_g) rm Pc (QcRead r) 0 0 (fun _ => False)) (hB : md_B y bytes maxL ret n) (hin : Cond.instanceMethod y ∈ lw_g) (hse : Cond.selects C y y ∈ lw_g) (hl : Cond.methodLink own index y ∈ lw_g)
    (hrc : rm.cells = 0) (hrs : rm.slots = 0) (hR : rm.frames + 1 ≤ R.frames ∧ 8 + (maxL + 11) + rm.locals ≤ R.locals) (hp : PreV s H C b Pc As) (hn : As.length = n) (hsize : ls.size = nL) (hst : st = As.reverse ++ .ref b :: rest) (hW : (rest.map fun v => v.category).sum ≤ 8) (hdg : decode cc pc = .ok (.invokevirtual index, 3)) (hf : cells ≤ R.cells ∧ slots ≤ R.slots)
    (kk : W p l e R s m args below meth c H locs cells slots Q (F0 m (pc + 3) ls (.int r :: rest))) : W p l e R s m args below meth c H locs cells slots Q (F0 m pc ls st) :=
  W.callR (a := (Value.ref b :: As).toArray) (W.runV (As := As) (rest := rest) (g := F0 m pc ls st) S hM ⟨cb_of S.2.2.2.2 hB hrc hrs hl hR, S.2.2.2.2 _ hin, S.2.2.2.2 _ hse⟩ hp rfl hn hsize hst (lv_room hW) hdg hf) kk
theorem rc_S (S : p.tables.exec = Jvm.exec ∧ c.code = cc ∧ c.maxLocals = nL ∧ s.vm.findClass own = some m.cls ∧ ∀ w ∈ lw_g, w.before args s = true) (hM : Met l y (Cond.code y bytes maxL ret :: lw_g) rm Pc (QcRead r) 0 0 (fun _ => False)) (hB : md_B y bytes maxL ret n) (hstt : Cond.static y ∈ lw_g) (hl : Cond.methodLink own index y ∈ lw_g)
    (hrc : rm.cells = 0) (hrs : rm.slots = 0) (hR : rm.frames + 1 ≤ R.frames ∧ 8 + (maxL + 11) + rm.locals ≤ R.locals) (hp : PreS s H Pc As) (hn : As.length = n) (hsize : ls.size = nL) (hst : st = As.reverse ++ rest) (hW : (rest.map fun v => v.category).sum ≤ 8) (hdg : decode cc pc = .ok (.invokestatic index, 3)) (hf : cells ≤ R.cells ∧ slots ≤ R.slots)
    (kk : W p l e R s m args below meth c H locs cells slots Q (F0 m (pc + 3) ls (.int r :: rest))) : W p l e R s m args below meth c H locs cells slots Q (F0 m pc ls st) :=
  W.callR (a := As.toArray) (W.runS (As := As) (rest := rest) (g := F0 m pc ls st) S hM ⟨cb_of S.2.2.2.2 hB hrc hrs hl hR, S.2.2.2.2 _ hstt⟩ hp rfl hn hsize hst (lv_room hW) hdg hf) kk
/-- the run of a call, for the three kinds of call -/
theorem rn_V (S : p.tables.exec = Jvm.exec ∧ c.code = cc ∧ c.maxLocals = nL ∧ s.vm.findClass own = some m.cls ∧ ∀ w ∈ lw_g, w.before args s = true) (hM : Met l y (Cond.code y bytes maxL ret :: lw_g) rm Pc Qc mc ms free) (hB : md_B y bytes maxL ret n) (hin : Cond.instanceMethod y ∈ lw_g) (hse : Cond.selects C y y ∈ lw_g) (hl : Cond.methodLink own index y ∈ lw_g)
    (hrc : rm.cells = mc) (hrs : rm.slots = ms) (hR : rm.frames + 1 ≤ R.frames ∧ 8 + (maxL + 11) + rm.locals ≤ R.locals) (hp : PreV s H C b Pc As) (hn : As.length = n) (hsize : ls.size = nL) (hst : st = As.reverse ++ .ref b :: rest) (hW : (rest.map fun v => v.category).sum ≤ 8) (hdg : decode cc pc = .ok (.invokevirtual index, 3)) (hf : cells + mc ≤ R.cells ∧ slots + ms ≤ R.slots) :
    va_Run p l e R s m args below meth c H locs cells slots mc ms (F0 m pc ls st) rest (Qc (Value.ref b :: As).toArray) free :=
  va_runV (As := As) (rest := rest) (g := F0 m pc ls st) S hM ⟨cb_of S.2.2.2.2 hB hrc hrs hl hR, S.2.2.2.2 _ hin, S.2.2.2.2 _ hse⟩ hp rfl hn hsize hst (lv_room hW) hdg hf
theorem rn_S (S : p.tables.exec = Jvm.exec ∧ c.code = cc ∧ c.maxLocals = nL ∧ s.vm.findClass own = some m.cls ∧ ∀ w ∈ lw_g, w.before args s = true) (hM : Met l y (Cond.code y bytes maxL ret :: lw_g) rm Pc Qc mc ms free) (hB : md_B y bytes maxL ret n) (hstt : Cond.static y ∈ lw_g) (hl : Cond.methodLink own index y ∈ lw_g)
    (hrc : rm.cells = mc) (hrs : rm.slots = ms) (hR : rm.frames + 1 ≤ R.frames ∧ 8 + (maxL + 11) + rm.locals ≤ R.locals) (hp : PreS s H Pc As) (hn : As.length = n) (hsize : ls.size = nL) (hst : st = As.reverse ++ rest) (hW : (rest.map fun v => v.category).sum ≤ 8) (hdg : decode cc pc = .ok (.invokestatic index, 3)) (hf : cells + mc ≤ R.cells ∧ slots + ms ≤ R.slots) :
    va_Run p l e R s m args below meth c H locs cells slots mc ms (F0 m pc ls st) rest (Qc As.toArray) free :=
  va_runS (As := As) (rest := rest) (g := F0 m pc ls st) S hM ⟨cb_of S.2.2.2.2 hB hrc hrs hl hR, S.2.2.2.2 _ hstt⟩ hp rfl hn hsize hst (lv_room hW) hdg hf
theorem rn_I (S : p.tables.exec = Jvm.exec ∧ c.code = cc ∧ c.maxLocals = nL ∧ s.vm.findClass own = some m.cls ∧ ∀ w ∈ lw_g, w.before args s = true) (hM : Met l y (Cond.code y bytes maxL none :: lw_g) rm Pc Qc mc ms free) (hB : md_B y bytes maxL none n) (hin : Cond.instanceMethod y ∈ lw_g) (hnm : y.name = "<init>") (hl : Cond.methodLink own index y ∈ lw_g)
    (hrc : rm.cells = mc) (hrs : rm.slots = ms) (hR : rm.frames + 1 ≤ R.frames ∧ 8 + (maxL + 11) + rm.locals ≤ R.locals) (hp : PreS s H Pc (.ref b :: As)) (hn : As.length = n) (hsize : ls.size = nL) (hst : st = As.reverse ++ .ref b :: rest) (hW : (rest.map fun v => v.category).sum ≤ 8) (hdg : decode cc pc = .ok (.invokespecial index, 3)) (hf : cells + mc ≤ R.cells ∧ slots + ms ≤ R.slots) :
    va_Run p l e R s m args below meth c H locs cells slots mc ms (F0 m pc ls st) rest (Qc (Value.ref b :: As).toArray) free :=
  va_runI (As := As) (rest := rest) (g := F0 m pc ls st) S hM ⟨cb_of S.2.2.2.2 hB hrc hrs hl hR, hnm, S.2.2.2.2 _ hin⟩ hp rfl hn hsize hst (lv_room hW) hdg hf
variable {D : va_G} {cA : ClassId} {ws wc wr : va_W} {A : Nat → Prop} {H0 : Heap} {a : Array Value}
/-- a call that returns an int, its world back among the caller's -/
theorem cl_i {S : Type} {post : Int32 → S → Prop} {w1 : S → va_W} (hr : va_Run p l e R s m args below meth c H locs cells slots mc ms (F0 m pc ls st) rest (va_Qi post (fun u t => wd_T D cA (va_A wc H.size) (w1 u) t) (va_A wc H.size) a) (va_A wc H.size)) (hP : va_P D classes ws H) (hD : va_D A ws) (hS : va_S A H0 H locs) (hA : ∀ q, H0.size ≤ q → A q)
    (isC isR : List Nat) (hC : isC.map (fun i => ws[i]?) = wc.map some) (hR : isR.map (fun i => ws[i]?) = wr.map some) (hn : va_nd isR = true) (hdis : ∀ i ∈ isR, i ∉ isC)
    (kk : ∀ (r : Int32) (u : S) (H1 : Heap) (locs1 : List Loc), post r u → va_P D classes (wr ++ w1 u) H1 → va_D A (wr ++ w1 u) → va_S A H0 H1 locs1 → W p l e R s m args below meth c H1 locs1 (cells + mc) (slots + ms) Q (F0 m (pc + 3) ls (.int r :: rest))) : W p l e R s m args below meth c H locs cells slots Q (F0 m pc ls st) := by
  have hFc := va_free (wc := wc) hD hS hA isC hC
  refine va_calli hr hS (fun q _ h => hFc q h) hFc (fun r u t H1 locs1 ht hvm hw hB hz1 hk1 hS1 => ?_)
  obtain ⟨hP1, hK1, hD1⟩ := hB
  rw [ht] at hP1
  obtain ⟨hP2, hD2⟩ := va_join (wr := wr) (w1 := w1 u) hP hD isC isR hC hR hn hdis hk1 hFc hP1 hD1
  exact kk r u H1 locs1 hw hP2 hD2 hS1
theorem cl_v {S : Type} {post : S → Prop} {w1 : S → va_W} (hr : va_Run p l e R s m args below meth c H locs cells slots mc ms (F0 m pc ls st) rest (va_Qv post (fun u t => wd_T D cA (va_A wc H.size) (w1 u) t) (va_A wc H.size) a) (va_A wc H.size)) (hP : va_P D classes ws H) (hD : va_D A ws) (hS : va_S A H0 H locs) (hA : ∀ q, H0.size ≤ q → A q)
    (isC isR : List Nat) (hC : isC.map (fun i => ws[i]?) = wc.map some) (hR : isR.map (fun i => ws[i]?) = wr.map some) (hn : va_nd isR = true) (hdis : ∀ i ∈ isR, i ∉ isC)
    (kk : ∀ (u : S) (H1 : Heap) (locs1 : List Loc), post u → va_P D classes (wr ++ w1 u) H1 → va_D A (wr ++ w1 u) → va_S A H0 H1 locs1 → W p l e R s m args below meth c H1 locs1 (cells + mc) (slots + ms) Q (F0 m (pc + 3) ls rest)) : W p l e R s m args below meth c H locs cells slots Q (F0 m pc ls st) := by
  have hFc := va_free (wc := wc) hD hS hA isC hC
  refine va_callv hr hS (fun q _ h => hFc q h) hFc (fun u t H1 locs1 ht hvm hw hB hz1 hk1 hS1 => ?_)
  obtain ⟨hP1, hK1, hD1⟩ := hB
  rw [ht] at hP1
  obtain ⟨hP2, hD2⟩ := va_join (wr := wr) (w1 := w1 u) hP hD isC isR hC hR hn hdis hk1 hFc hP1 hD1
  exact kk u H1 locs1 hw hP2 hD2 hS1
theorem cl_r {S : Type} {post : S → Prop} {w1 : S → Nat → va_W} (hr : va_Run p l e R s m args below meth c H locs cells slots mc ms (F0 m pc ls st) rest (va_Qr post (fun u ra t => wd_T D cA (va_A wc H.size) (w1 u ra) t) (va_A wc H.size) a) (va_A wc H.size)) (hP : va_P D classes ws H) (hD : va_D A ws) (hS : va_S A H0 H locs) (hA : ∀ q, H0.size ≤ q → A q)
    (isC isR : List Nat) (hC : isC.map (fun i => ws[i]?) = wc.map some) (hR : isR.map (fun i => ws[i]?) = wr.map some) (hn : va_nd isR = true) (hdis : ∀ i ∈ isR, i ∉ isC)
    (kk : ∀ (u : S) (ra : Nat) (H1 : Heap) (locs1 : List Loc), post u → va_P D classes (wr ++ w1 u ra) H1 → va_D A (wr ++ w1 u ra) → va_S A H0 H1 locs1 → W p l e R s m args below meth c H1 locs1 (cells + mc) (slots + ms) Q (F0 m (pc + 3) ls (.ref ra :: rest))) : W p l e R s m args below meth c H locs cells slots Q (F0 m pc ls st) := by
  have hFc := va_free (wc := wc) hD hS hA isC hC
  refine va_callr hr hS (fun q _ h => hFc q h) hFc (fun u ra t H1 locs1 ht hvm hw hB hz1 hk1 hS1 => ?_)
  obtain ⟨hP1, hK1, hD1⟩ := hB
  rw [ht] at hP1
  obtain ⟨hP2, hD2⟩ := va_join (wr := wr) (w1 := w1 u ra) hP hD isC isR hC hR hn hdis hk1 hFc hP1 hD1
  exact kk u ra H1 locs1 hw hP2 hD2 hS1
end CL
/-! arrays of ints, by a natural place -/
section AR
variable {p : Program} {l : Launch} {e : Env} {R : Room} {s : State} {m : MethodId} {args : Array Value} {below : List Frame} {meth : Method} {c : Code} {H H0 : Heap} {locs : List Loc} {cells slots : Nat} {Q : State → Prop}
variable {cc : ByteArray} {pc : Nat} {ls : Array Slot} {rest : List Value} {D : va_G} {cA : ClassId} {ws : va_W} {A : Nat → Prop} {a : Nat}
theorem rw_iald (hx : p.tables.exec = Jvm.exec) (hb : c.code = cc) (hK : va_K D classes [(cA, .int)] s) (hP : va_P D classes ws H) (q0 : Nat) {n k : Nat} {f : Nat → Int32} {v : Int32} (ha : ws[q0]? = some (a, .inl (cA, n, .inl f))) (hk : k < n) (hn : n < 2 ^ 31) (hv : f k = v) (hdg : decode cc pc = .ok (.iaload, 1))
    (kk : W p l e R s m args below meth c H locs cells slots Q (F0 m (pc + 1) ls (.int v :: rest))) : W p l e R s m args below meth c H locs cells slots Q (F0 m pc ls (.int (nI k) :: .ref a :: rest)) :=
  va_iald hx hb hK hP q0 0 ha rfl (vp_in_nI hk hn) hdg (rw_top (by rw [nI_clamp (by omega), hv]) kk)
theorem rw_iast (hx : p.tables.exec = Jvm.exec) (hb : c.code = cc) (hK : va_K D classes [(cA, .int)] s) (hP : va_P D classes ws H) (hD : va_D A ws) (hS : va_S A H0 H locs) (q0 : Nat) {n k : Nat} {f : Nat → Int32} {x : Int32} (ha : ws[q0]? = some (a, .inl (cA, n, .inl f))) (hk : k < n) (hn : n < 2 ^ 31) (hdg : decode cc pc = .ok (.iastore, 1))
    (kk : ∀ (H1 : Heap) (locs1 : List Loc), va_P D classes (ws.set q0 (a, .inl (cA, n, .inl (upd f k x)))) H1 → va_D A (ws.set q0 (a, .inl (cA, n, .inl (upd f k x)))) → va_S A H0 H1 locs1 → W p l e R s m args below meth c H1 locs1 cells slots Q (F0 m (pc + 1) ls rest)) : W p l e R s m args below meth c H locs cells slots Q (F0 m pc ls (.int x :: .int (nI k) :: .ref a :: rest)) := by
  refine va_iast hx hb hK hP hD hS q0 0 ha rfl (vp_in_nI hk hn) hdg (fun H1 locs1 h1 h2 h3 => ?_)
  rw [nI_clamp (by omega)] at h1 h2
  exact kk H1 locs1 h1 h2 h3
/-- a new array of ints; its class is the one that is known -/
theorem rw_newa (hx : p.tables.exec = Jvm.exec) (hb : c.code = cc) (ht : ∀ w ∈ lw_g, w.before args s = true) (hK : va_K D classes [(cA, .int)] s) (hP : va_P D classes ws H) (hD : va_D A ws) (hS : va_S A H0 H locs) (hA : ∀ q, H0.size ≤ q → A q) {n : Nat} (hn : n ≤ 8) (hcells : cells + 1 ≤ R.cells) (hslots : slots + n ≤ R.slots) (hdg : decode cc pc = .ok (.newarray .int, 2))
    (kk : ∀ (q : Nat) (H1 : Heap), va_P D classes (ws ++ [(q, .inl (cA, n, .inl (fun _ => 0)))]) H1 → va_D A (ws ++ [(q, .inl (cA, n, .inl (fun _ => 0)))]) → va_S A H0 H1 locs → W p l e R s m args below meth c H1 locs (cells + 1) (slots + n) Q (F0 m (pc + 2) ls (.ref q :: rest))) : W p l e R s m args below meth c H locs cells slots Q (F0 m pc ls (.int (nI n) :: rest)) := by
  refine va_newa (atype := .int) (N' := n) (a0 := (n, .inl (fun _ => 0))) hx hb (ht _ ta_int) rfl hK hP hD hS hA (fun _ => rfl) (nI_pos (by omega)) (nI_clamp (by omega)) (by show n * 4 ≤ _; omega) hcells hslots hdg (fun q cB H1 hK1 hP1 hD1 hS1 => ?_)
  have e1 := (hK.2 0 _ rfl).2
  have e2 := (hK1.2 1 _ rfl).2
  have e : cA = cB := Option.some.inj (Eq.trans (Eq.symm e1) e2)
  subst e
  exact kk q H1 hP1 hD1 hS1
end AR
end
section
/-! fields -/
section FD
variable {p : Program} {l : Launch} {e : Env} {R : Room} {s : State} {m : MethodId} {args : Array Value} {below : List Frame} {meth : Method} {c : Code} {H H0 : Heap} {locs : List Loc} {cells slots : Nat} {Q : State → Prop}
variable {cc : ByteArray} {pc : Nat} {ls : Array Slot} {rest : List Value} {D : va_G} {cA : ClassId} {ws : va_W} {A : Nat → Prop} {a : Nat}
theorem gf_X_7 (hx : p.tables.exec = Jvm.exec) (hb : c.code = cc) (ht : ∀ w ∈ lw_g, w.before args s = true) (hown : s.vm.findClass "RankDesk" = some m.cls) (hK : va_K D classes [(cA, .int)] s) (hP : va_P D classes ws H) (q0 : Nat) {v0 v1 v2 v3 : Value} (he : ws[q0]? = some (a, .inr (0, [v0, v1, v2, v3]))) (hdg : decode cc pc = .ok (.getfield 7, 3)) (kk : W p l e R s m args below meth c H locs cells slots Q (F0 m (pc + 3) ls (v0 :: rest))) : W p l e R s m args below meth c H locs cells slots Q (F0 m pc ls (.ref a :: rest)) :=
  va_get (D := D) (ci := 0) (v := v0) (C := "RankDesk") (T := F_X) (N := 4) hx hb ht iw_X hown hK hP q0 he rfl 0 (by decide) (ht _ tf_X_7) (fun _ h9 => h9) rfl hdg kk
theorem pw_X_7 (hx : p.tables.exec = Jvm.exec) (hb : c.code = cc) (ht : ∀ w ∈ lw_g, w.before args s = true) (hown : s.vm.findClass "RankDesk" = some m.cls) (hK : va_K D classes [(cA, .int)] s) (hP : va_P D classes ws H) (hD : va_D A ws) (hS : va_S A H0 H locs) (hin : meth.name = "<init>") (q0 : Nat) {v0 v1 v2 v3 : Value} {x : Nat} (he : ws[q0]? = some (a, .inr (0, [v0, v1, v2, v3]))) (hdg : decode cc pc = .ok (.putfield 7, 3)) (kk : ∀ (H1 : Heap) (locs1 : List Loc), va_P D classes (ws.set q0 (a, .inr (0, [.ref x, v1, v2, v3]))) H1 → va_D A (ws.set q0 (a, .inr (0, [.ref x, v1, v2, v3]))) → va_S A H0 H1 locs1 → W p l e R s m args below meth c H1 locs1 cells slots Q (F0 m (pc + 3) ls rest)) : W p l e R s m args below meth c H locs cells slots Q (F0 m pc ls (.ref x :: .ref a :: rest)) :=
  va_putF (D := D) (ci := 0) (v := .ref x) (ty := .array .int) (C := "RankDesk") (T := F_X) (N := 4) hx hb ht iw_X ft_X fo_X fn_X hown hK hP hD hS q0 he rfl 0 (by decide) (ht _ tf_X_7) (fun _ h9 => h9) rfl hin rfl (by decide +kernel) rfl rfl (Nat.le_of_ble_eq_true rfl) hdg kk
theorem gf_X_13 (hx : p.tables.exec = Jvm.exec) (hb : c.code = cc) (ht : ∀ w ∈ lw_g, w.before args s = true) (hown : s.vm.findClass "RankDesk" = some m.cls) (hK : va_K D classes [(cA, .int)] s) (hP : va_P D classes ws H) (q0 : Nat) {v0 v1 v2 v3 : Value} (he : ws[q0]? = some (a, .inr (0, [v0, v1, v2, v3]))) (hdg : decode cc pc = .ok (.getfield 13, 3)) (kk : W p l e R s m args below meth c H locs cells slots Q (F0 m (pc + 3) ls (v1 :: rest))) : W p l e R s m args below meth c H locs cells slots Q (F0 m pc ls (.ref a :: rest)) :=
  va_get (D := D) (ci := 0) (v := v1) (C := "RankDesk") (T := F_X) (N := 4) hx hb ht iw_X hown hK hP q0 he rfl 1 (by decide) (ht _ tf_X_13) (fun _ h9 => h9) rfl hdg kk
theorem pw_X_13 (hx : p.tables.exec = Jvm.exec) (hb : c.code = cc) (ht : ∀ w ∈ lw_g, w.before args s = true) (hown : s.vm.findClass "RankDesk" = some m.cls) (hK : va_K D classes [(cA, .int)] s) (hP : va_P D classes ws H) (hD : va_D A ws) (hS : va_S A H0 H locs) (hin : meth.name = "<init>") (q0 : Nat) {v0 v1 v2 v3 : Value} {x : Nat} (he : ws[q0]? = some (a, .inr (0, [v0, v1, v2, v3]))) (hdg : decode cc pc = .ok (.putfield 13, 3)) (kk : ∀ (H1 : Heap) (locs1 : List Loc), va_P D classes (ws.set q0 (a, .inr (0, [v0, .ref x, v2, v3]))) H1 → va_D A (ws.set q0 (a, .inr (0, [v0, .ref x, v2, v3]))) → va_S A H0 H1 locs1 → W p l e R s m args below meth c H1 locs1 cells slots Q (F0 m (pc + 3) ls rest)) : W p l e R s m args below meth c H locs cells slots Q (F0 m pc ls (.ref x :: .ref a :: rest)) :=
  va_putF (D := D) (ci := 0) (v := .ref x) (ty := .array .int) (C := "RankDesk") (T := F_X) (N := 4) hx hb ht iw_X ft_X fo_X fn_X hown hK hP hD hS q0 he rfl 1 (by decide) (ht _ tf_X_13) (fun _ h9 => h9) rfl hin rfl (by decide +kernel) rfl rfl (Nat.le_of_ble_eq_true rfl) hdg kk
theorem gf_X_16 (hx : p.tables.exec = Jvm.exec) (hb : c.code = cc) (ht : ∀ w ∈ lw_g, w.before args s = true) (hown : s.vm.findClass "RankDesk" = some m.cls) (hK : va_K D classes [(cA, .int)] s) (hP : va_P D classes ws H) (q0 : Nat) {v0 v1 v2 v3 : Value} (he : ws[q0]? = some (a, .inr (0, [v0, v1, v2, v3]))) (hdg : decode cc pc = .ok (.getfield 16, 3)) (kk : W p l e R s m args below meth c H locs cells slots Q (F0 m (pc + 3) ls (v2 :: rest))) : W p l e R s m args below meth c H locs cells slots Q (F0 m pc ls (.ref a :: rest)) :=
  va_get (D := D) (ci := 0) (v := v2) (C := "RankDesk") (T := F_X) (N := 4) hx hb ht iw_X hown hK hP q0 he rfl 2 (by decide) (ht _ tf_X_16) (fun _ h9 => h9) rfl hdg kk
theorem pw_X_16 (hx : p.tables.exec = Jvm.exec) (hb : c.code = cc) (ht : ∀ w ∈ lw_g, w.before args s = true) (hown : s.vm.findClass "RankDesk" = some m.cls) (hK : va_K D classes [(cA, .int)] s) (hP : va_P D classes ws H) (hD : va_D A ws) (hS : va_S A H0 H locs) (q0 : Nat) {v0 v1 v2 v3 : Value} {x : Int32} (he : ws[q0]? = some (a, .inr (0, [v0, v1, v2, v3]))) (hdg : decode cc pc = .ok (.putfield 16, 3)) (kk : ∀ (H1 : Heap) (locs1 : List Loc), va_P D classes (ws.set q0 (a, .inr (0, [v0, v1, .int x, v3]))) H1 → va_D A (ws.set q0 (a, .inr (0, [v0, v1, .int x, v3]))) → va_S A H0 H1 locs1 → W p l e R s m args below meth c H1 locs1 cells slots Q (F0 m (pc + 3) ls rest)) : W p l e R s m args below meth c H locs cells slots Q (F0 m pc ls (.int x :: .ref a :: rest)) :=
  va_put (D := D) (ci := 0) (v := .int x) (ty := .int) (C := "RankDesk") (T := F_X) (N := 4) hx hb ht iw_X ft_X fo_X fn_X hown hK hP hD hS q0 he rfl 2 (by decide) (ht _ tf_X_16) (fun _ h9 => h9) rfl (by decide +kernel) rfl rfl (Nat.le_of_ble_eq_true rfl) hdg kk
theorem gf_X_20 (hx : p.tables.exec = Jvm.exec) (hb : c.code = cc) (ht : ∀ w ∈ lw_g, w.before args s = true) (hown : s.vm.findClass "RankDesk" = some m.cls) (hK : va_K D classes [(cA, .int)] s) (hP : va_P D classes ws H) (q0 : Nat) {v0 v1 v2 v3 : Value} (he : ws[q0]? = some (a, .inr (0, [v0, v1, v2, v3]))) (hdg : decode cc pc = .ok (.getfield 20, 3)) (kk : W p l e R s m args below meth c H locs cells slots Q (F0 m (pc + 3) ls (v3 :: rest))) : W p l e R s m args below meth c H locs cells slots Q (F0 m pc ls (.ref a :: rest)) :=
  va_get (D := D) (ci := 0) (v := v3) (C := "RankDesk") (T := F_X) (N := 4) hx hb ht iw_X hown hK hP q0 he rfl 3 (by decide) (ht _ tf_X_20) (fun _ h9 => h9) rfl hdg kk
theorem pw_X_20 (hx : p.tables.exec = Jvm.exec) (hb : c.code = cc) (ht : ∀ w ∈ lw_g, w.before args s = true) (hown : s.vm.findClass "RankDesk" = some m.cls) (hK : va_K D classes [(cA, .int)] s) (hP : va_P D classes ws H) (hD : va_D A ws) (hS : va_S A H0 H locs) (q0 : Nat) {v0 v1 v2 v3 : Value} {x : Int32} (he : ws[q0]? = some (a, .inr (0, [v0, v1, v2, v3]))) (hdg : decode cc pc = .ok (.putfield 20, 3)) (kk : ∀ (H1 : Heap) (locs1 : List Loc), va_P D classes (ws.set q0 (a, .inr (0, [v0, v1, v2, .int x]))) H1 → va_D A (ws.set q0 (a, .inr (0, [v0, v1, v2, .int x]))) → va_S A H0 H1 locs1 → W p l e R s m args below meth c H1 locs1 cells slots Q (F0 m (pc + 3) ls rest)) : W p l e R s m args below meth c H locs cells slots Q (F0 m pc ls (.int x :: .ref a :: rest)) :=
  va_put (D := D) (ci := 0) (v := .int x) (ty := .int) (C := "RankDesk") (T := F_X) (N := 4) hx hb ht iw_X ft_X fo_X fn_X hown hK hP hD hS q0 he rfl 3 (by decide) (ht _ tf_X_20) (fun _ h9 => h9) rfl (by decide +kernel) rfl rfl (Nat.le_of_ble_eq_true rfl) hdg kk
theorem gf_K_7 (hx : p.tables.exec = Jvm.exec) (hb : c.code = cc) (ht : ∀ w ∈ lw_g, w.before args s = true) (hown : s.vm.findClass "RankDesk$Packed" = some m.cls) (hK : va_K D classes [(cA, .int)] s) (hP : va_P D classes ws H) (q0 : Nat) {v0 v1 : Value} (he : ws[q0]? = some (a, .inr (1, [v0, v1]))) (hdg : decode cc pc = .ok (.getfield 7, 3)) (kk : W p l e R s m args below meth c H locs cells slots Q (F0 m (pc + 3) ls (v0 :: rest))) : W p l e R s m args below meth c H locs cells slots Q (F0 m pc ls (.ref a :: rest)) :=
  va_get (D := D) (ci := 1) (v := v0) (C := "RankDesk$Packed") (T := F_K) (N := 2) hx hb ht iw_K hown hK hP q0 he rfl 0 (by decide) (ht _ tf_K_7) (fun _ h9 => h9) rfl hdg kk
theorem pw_K_7 (hx : p.tables.exec = Jvm.exec) (hb : c.code = cc) (ht : ∀ w ∈ lw_g, w.before args s = true) (hown : s.vm.findClass "RankDesk$Packed" = some m.cls) (hK : va_K D classes [(cA, .int)] s) (hP : va_P D classes ws H) (hD : va_D A ws) (hS : va_S A H0 H locs) (hin : meth.name = "<init>") (q0 : Nat) {v0 v1 : Value} {x : Int32} (he : ws[q0]? = some (a, .inr (1, [v0, v1]))) (hdg : decode cc pc = .ok (.putfield 7, 3)) (kk : ∀ (H1 : Heap) (locs1 : List Loc), va_P D classes (ws.set q0 (a, .inr (1, [.int x, v1]))) H1 → va_D A (ws.set q0 (a, .inr (1, [.int x, v1]))) → va_S A H0 H1 locs1 → W p l e R s m args below meth c H1 locs1 cells slots Q (F0 m (pc + 3) ls rest)) : W p l e R s m args below meth c H locs cells slots Q (F0 m pc ls (.int x :: .ref a :: rest)) :=
  va_putF (D := D) (ci := 1) (v := .int x) (ty := .int) (C := "RankDesk$Packed") (T := F_K) (N := 2) hx hb ht iw_K ft_K fo_K fn_K hown hK hP hD hS q0 he rfl 0 (by decide) (ht _ tf_K_7) (fun _ h9 => h9) rfl hin rfl (by decide +kernel) rfl rfl (Nat.le_of_ble_eq_true rfl) hdg kk
theorem gf_K_13 (hx : p.tables.exec = Jvm.exec) (hb : c.code = cc) (ht : ∀ w ∈ lw_g, w.before args s = true) (hown : s.vm.findClass "RankDesk$Packed" = some m.cls) (hK : va_K D classes [(cA, .int)] s) (hP : va_P D classes ws H) (q0 : Nat) {v0 v1 : Value} (he : ws[q0]? = some (a, .inr (1, [v0, v1]))) (hdg : decode cc pc = .ok (.getfield 13, 3)) (kk : W p l e R s m args below meth c H locs cells slots Q (F0 m (pc + 3) ls (v1 :: rest))) : W p l e R s m args below meth c H locs cells slots Q (F0 m pc ls (.ref a :: rest)) :=
  va_get (D := D) (ci := 1) (v := v1) (C := "RankDesk$Packed") (T := F_K) (N := 2) hx hb ht iw_K hown hK hP q0 he rfl 1 (by decide) (ht _ tf_K_13) (fun _ h9 => h9) rfl hdg kk
theorem pw_K_13 (hx : p.tables.exec = Jvm.exec) (hb : c.code = cc) (ht : ∀ w ∈ lw_g, w.before args s = true) (hown : s.vm.findClass "RankDesk$Packed" = some m.cls) (hK : va_K D classes [(cA, .int)] s) (hP : va_P D classes ws H) (hD : va_D A ws) (hS : va_S A H0 H locs) (hin : meth.name = "<init>") (q0 : Nat) {v0 v1 : Value} {x : Int32} (he : ws[q0]? = some (a, .inr (1, [v0, v1]))) (hdg : decode cc pc = .ok (.putfield 13, 3)) (kk : ∀ (H1 : Heap) (locs1 : List Loc), va_P D classes (ws.set q0 (a, .inr (1, [v0, .int x]))) H1 → va_D A (ws.set q0 (a, .inr (1, [v0, .int x]))) → va_S A H0 H1 locs1 → W p l e R s m args below meth c H1 locs1 cells slots Q (F0 m (pc + 3) ls rest)) : W p l e R s m args below meth c H locs cells slots Q (F0 m pc ls (.int x :: .ref a :: rest)) :=
  va_putF (D := D) (ci := 1) (v := .int x) (ty := .int) (C := "RankDesk$Packed") (T := F_K) (N := 2) hx hb ht iw_K ft_K fo_K fn_K hown hK hP hD hS q0 he rfl 1 (by decide) (ht _ tf_K_13) (fun _ h9 => h9) rfl hin rfl (by decide +kernel) rfl rfl (Nat.le_of_ble_eq_true rfl) hdg kk
theorem gf_M_2 (hx : p.tables.exec = Jvm.exec) (hb : c.code = cc) (ht : ∀ w ∈ lw_g, w.before args s = true) (hown : s.vm.findClass "RankDeskModel" = some m.cls) (hK : va_K D classes [(cA, .int)] s) (hP : va_P D classes ws H) (q0 : Nat) {v0 v1 v2 v3 : Value} (he : ws[q0]? = some (a, .inr (2, [v0, v1, v2, v3]))) (hdg : decode cc pc = .ok (.getfield 2, 3)) (kk : W p l e R s m args below meth c H locs cells slots Q (F0 m (pc + 3) ls (v0 :: rest))) : W p l e R s m args below meth c H locs cells slots Q (F0 m pc ls (.ref a :: rest)) :=
  va_get (D := D) (ci := 2) (v := v0) (C := "RankDeskModel") (T := F_M) (N := 4) hx hb ht iw_M hown hK hP q0 he rfl 0 (by decide) (ht _ tf_M_2) (fun _ h9 => h9) rfl hdg kk
theorem pw_M_2 (hx : p.tables.exec = Jvm.exec) (hb : c.code = cc) (ht : ∀ w ∈ lw_g, w.before args s = true) (hown : s.vm.findClass "RankDeskModel" = some m.cls) (hK : va_K D classes [(cA, .int)] s) (hP : va_P D classes ws H) (hD : va_D A ws) (hS : va_S A H0 H locs) (q0 : Nat) {v0 v1 v2 v3 : Value} {x : Int32} (he : ws[q0]? = some (a, .inr (2, [v0, v1, v2, v3]))) (hdg : decode cc pc = .ok (.putfield 2, 3)) (kk : ∀ (H1 : Heap) (locs1 : List Loc), va_P D classes (ws.set q0 (a, .inr (2, [.int x, v1, v2, v3]))) H1 → va_D A (ws.set q0 (a, .inr (2, [.int x, v1, v2, v3]))) → va_S A H0 H1 locs1 → W p l e R s m args below meth c H1 locs1 cells slots Q (F0 m (pc + 3) ls rest)) : W p l e R s m args below meth c H locs cells slots Q (F0 m pc ls (.int x :: .ref a :: rest)) :=
  va_put (D := D) (ci := 2) (v := .int x) (ty := .int) (C := "RankDeskModel") (T := F_M) (N := 4) hx hb ht iw_M ft_M fo_M fn_M hown hK hP hD hS q0 he rfl 0 (by decide) (ht _ tf_M_2) (fun _ h9 => h9) rfl (by decide +kernel) rfl rfl (Nat.le_of_ble_eq_true rfl) hdg kk
theorem gf_M_8 (hx : p.tables.exec = Jvm.exec) (hb : c.code = cc) (ht : ∀ w ∈ lw_g, w.before args s = true) (hown : s.vm.findClass "RankDeskModel" = some m.cls) (hK : va_K D classes [(cA, .int)] s) (hP : va_P D classes ws H) (q0 : Nat) {v0 v1 v2 v3 : Value} (he : ws[q0]? = some (a, .inr (2, [v0, v1, v2, v3]))) (hdg : decode cc pc = .ok (.getfield 8, 3)) (kk : W p l e R s m args below meth c H locs cells slots Q (F0 m (pc + 3) ls (v1 :: rest))) : W p l e R s m args below meth c H locs cells slots Q (F0 m pc ls (.ref a :: rest)) :=
  va_get (D := D) (ci := 2) (v := v1) (C := "RankDeskModel") (T := F_M) (N := 4) hx hb ht iw_M hown hK hP q0 he rfl 1 (by decide) (ht _ tf_M_8) (fun _ h9 => h9) rfl hdg kk
theorem pw_M_8 (hx : p.tables.exec = Jvm.exec) (hb : c.code = cc) (ht : ∀ w ∈ lw_g, w.before args s = true) (hown : s.vm.findClass "RankDeskModel" = some m.cls) (hK : va_K D classes [(cA, .int)] s) (hP : va_P D classes ws H) (hD : va_D A ws) (hS : va_S A H0 H locs) (hin : meth.name = "<init>") (q0 : Nat) {v0 v1 v2 v3 : Value} {x : Nat} (he : ws[q0]? = some (a, .inr (2, [v0, v1, v2, v3]))) (hdg : decode cc pc = .ok (.putfield 8, 3)) (kk : ∀ (H1 : Heap) (locs1 : List Loc), va_P D classes (ws.set q0 (a, .inr (2, [v0, .ref x, v2, v3]))) H1 → va_D A (ws.set q0 (a, .inr (2, [v0, .ref x, v2, v3]))) → va_S A H0 H1 locs1 → W p l e R s m args below meth c H1 locs1 cells slots Q (F0 m (pc + 3) ls rest)) : W p l e R s m args below meth c H locs cells slots Q (F0 m pc ls (.ref x :: .ref a :: rest)) :=
  va_putF (D := D) (ci := 2) (v := .ref x) (ty := .array .int) (C := "RankDeskModel") (T := F_M) (N := 4) hx hb ht iw_M ft_M fo_M fn_M hown hK hP hD hS q0 he rfl 1 (by decide) (ht _ tf_M_8) (fun _ h9 => h9) rfl hin rfl (by decide +kernel) rfl rfl (Nat.le_of_ble_eq_true rfl) hdg kk
theorem gf_M_18 (hx : p.tables.exec = Jvm.exec) (hb : c.code = cc) (ht : ∀ w ∈ lw_g, w.before args s = true) (hown : s.vm.findClass "RankDeskModel" = some m.cls) (hK : va_K D classes [(cA, .int)] s) (hP : va_P D classes ws H) (q0 : Nat) {v0 v1 v2 v3 : Value} (he : ws[q0]? = some (a, .inr (2, [v0, v1, v2, v3]))) (hdg : decode cc pc = .ok (.getfield 18, 3)) (kk : W p l e R s m args below meth c H locs cells slots Q (F0 m (pc + 3) ls (v2 :: rest))) : W p l e R s m args below meth c H locs cells slots Q (F0 m pc ls (.ref a :: rest)) :=
  va_get (D := D) (ci := 2) (v := v2) (C := "RankDeskModel") (T := F_M) (N := 4) hx hb ht iw_M hown hK hP q0 he rfl 2 (by decide) (ht _ tf_M_18) (fun _ h9 => h9) rfl hdg kk
theorem pw_M_18 (hx : p.tables.exec = Jvm.exec) (hb : c.code = cc) (ht : ∀ w ∈ lw_g, w.before args s = true) (hown : s.vm.findClass "RankDeskModel" = some m.cls) (hK : va_K D classes [(cA, .int)] s) (hP : va_P D classes ws H) (hD : va_D A ws) (hS : va_S A H0 H locs) (hin : meth.name = "<init>") (q0 : Nat) {v0 v1 v2 v3 : Value} {x : Nat} (he : ws[q0]? = some (a, .inr (2, [v0, v1, v2, v3]))) (hdg : decode cc pc = .ok (.putfield 18, 3)) (kk : ∀ (H1 : Heap) (locs1 : List Loc), va_P D classes (ws.set q0 (a, .inr (2, [v0, v1, .ref x, v3]))) H1 → va_D A (ws.set q0 (a, .inr (2, [v0, v1, .ref x, v3]))) → va_S A H0 H1 locs1 → W p l e R s m args below meth c H1 locs1 cells slots Q (F0 m (pc + 3) ls rest)) : W p l e R s m args below meth c H locs cells slots Q (F0 m pc ls (.ref x :: .ref a :: rest)) :=
  va_putF (D := D) (ci := 2) (v := .ref x) (ty := .array .int) (C := "RankDeskModel") (T := F_M) (N := 4) hx hb ht iw_M ft_M fo_M fn_M hown hK hP hD hS q0 he rfl 2 (by decide) (ht _ tf_M_18) (fun _ h9 => h9) rfl hin rfl (by decide +kernel) rfl rfl (Nat.le_of_ble_eq_true rfl) hdg kk
theorem gf_M_21 (hx : p.tables.exec = Jvm.exec) (hb : c.code = cc) (ht : ∀ w ∈ lw_g, w.before args s = true) (hown : s.vm.findClass "RankDeskModel" = some m.cls) (hK : va_K D classes [(cA, .int)] s) (hP : va_P D classes ws H) (q0 : Nat) {v0 v1 v2 v3 : Value} (he : ws[q0]? = some (a, .inr (2, [v0, v1, v2, v3]))) (hdg : decode cc pc = .ok (.getfield 21, 3)) (kk : W p l e R s m args below meth c H locs cells slots Q (F0 m (pc + 3) ls (v3 :: rest))) : W p l e R s m args below meth c H locs cells slots Q (F0 m pc ls (.ref a :: rest)) :=
  va_get (D := D) (ci := 2) (v := v3) (C := "RankDeskModel") (T := F_M) (N := 4) hx hb ht iw_M hown hK hP q0 he rfl 3 (by decide) (ht _ tf_M_21) (fun _ h9 => h9) rfl hdg kk
theorem pw_M_21 (hx : p.tables.exec = Jvm.exec) (hb : c.code = cc) (ht : ∀ w ∈ lw_g, w.before args s = true) (hown : s.vm.findClass "RankDeskModel" = some m.cls) (hK : va_K D classes [(cA, .int)] s) (hP : va_P D classes ws H) (hD : va_D A ws) (hS : va_S A H0 H locs) (hin : meth.name = "<init>") (q0 : Nat) {v0 v1 v2 v3 : Value} {x : Nat} (he : ws[q0]? = some (a, .inr (2, [v0, v1, v2, v3]))) (hdg : decode cc pc = .ok (.putfield 21, 3)) (kk : ∀ (H1 : Heap) (locs1 : List Loc), va_P D classes (ws.set q0 (a, .inr (2, [v0, v1, v2, .ref x]))) H1 → va_D A (ws.set q0 (a, .inr (2, [v0, v1, v2, .ref x]))) → va_S A H0 H1 locs1 → W p l e R s m args below meth c H1 locs1 cells slots Q (F0 m (pc + 3) ls rest)) : W p l e R s m args below meth c H locs cells slots Q (F0 m pc ls (.ref x :: .ref a :: rest)) :=
  va_putF (D := D) (ci := 2) (v := .ref x) (ty := .array .int) (C := "RankDeskModel") (T := F_M) (N := 4) hx hb ht iw_M ft_M fo_M fn_M hown hK hP hD hS q0 he rfl 3 (by decide) (ht _ tf_M_21) (fun _ h9 => h9) rfl hin rfl (by decide +kernel) rfl rfl (Nat.le_of_ble_eq_true rfl) hdg kk
end FD
end
section
/-! more rows: digits, shifts, the JDK's two -/
theorem zn_dg (w k : Nat) : w / 2 ^ (3 * k) &&& 7 = pf_dg w k := by
  rw [show (7 : Nat) = 2 ^ 3 - 1 from rfl, Nat.and_two_pow_sub_one_eq_mod]; rfl
theorem pf_dg_lt (w k : Nat) : pf_dg w k < 8 := Nat.mod_lt _ (by decide)
theorem zn_su : ∀ k, k < 32 → (((nI k).toUInt32 &&& Int32.toUInt32 31).toBitVec % 32).toNat = k := by decide +kernel
theorem zn_b2 (w : Nat) : w &&& 1 = w % 2 := Nat.and_one_is_mod w
section RW2
variable {p : Program} {l : Launch} {e : Env} {R : Room} {s : State} {m : MethodId} {args : Array Value} {below : List Frame} {meth : Method} {c : Code} {H : Heap} {locs : List Loc} {cells slots : Nat} {Q : State → Prop}
variable {cc : ByteArray} {pc : Nat} {ls : Array Slot} {rest : List Value}
theorem rw_iushr (hx : p.tables.exec = Jvm.exec) (hb : c.code = cc) {a b r : Nat} (hdg : decode cc pc = .ok (.iushr, 1)) (hk : b < 32) (ha : a < 2 ^ 32) (he : a / 2 ^ b = r) (k : W p l e R s m args below meth c H locs cells slots Q (F0 m (pc + 1) ls (.int (nI r) :: rest))) : W p l e R s m args below meth c H locs cells slots Q (F0 m pc ls (.int (nI b) :: .int (nI a) :: rest)) :=
  lv_iushr hx hb hdg (by rw [pk_ushrN ha _ b (zn_su b hk), he]) k
end RW2
/-- Integer.bitCount, stage by stage -/
def bc_1 (x : Int32) : Int32 := x - ((x.toUInt32 >>> ((nI 1).toUInt32 &&& Int32.toUInt32 31)).toInt32 &&& 1431655765)
def bc_2 (x : Int32) : Int32 := (x &&& 858993459) + ((x.toUInt32 >>> ((nI 2).toUInt32 &&& Int32.toUInt32 31)).toInt32 &&& 858993459)
def bc_3 (x : Int32) : Int32 := (x + (x.toUInt32 >>> ((nI 4).toUInt32 &&& Int32.toUInt32 31)).toInt32) &&& 252645135
def bc_4 (x : Int32) : Int32 := x + (x.toUInt32 >>> ((nI 8).toUInt32 &&& Int32.toUInt32 31)).toInt32
def bc_5 (x : Int32) : Int32 := x + (x.toUInt32 >>> ((nI 16).toUInt32 &&& Int32.toUInt32 31)).toInt32
theorem bc_ok : ∀ v, v < 128 → bc_5 (bc_4 (bc_3 (bc_2 (bc_1 (nI v))))) &&& nI 63 = nI (pf_pc v) := by decide +kernel
theorem tz_0 : ∀ v, v < 128 → 0 < v → (nI v ^^^ (-1)) &&& (nI v - nI 1) = nI (2 ^ pf_tz v - 1) := by decide +kernel
theorem tz_le : ∀ v, v < 128 → 0 < v → pf_tz v ≤ 6 := by decide +kernel
theorem tz_a : ∀ v, v < 128 → 0 < v → 2 ^ pf_tz v - 1 = 0 → pf_tz v = 0 := by decide +kernel
theorem tz_b : ∀ v, v < 128 → 0 < v → 2 ^ pf_tz v - 1 ≠ 0 → 2 ^ pf_tz v - 1 ≤ 16 → 2 ^ pf_tz v - 1 ≤ 4 → 1 + (2 ^ pf_tz v - 1) / 2 = pf_tz v := by decide +kernel
theorem tz_c : ∀ v, v < 128 → 0 < v → 2 ^ pf_tz v - 1 ≤ 16 → 4 < 2 ^ pf_tz v - 1 → 3 + (2 ^ pf_tz v - 1) / 2 ^ 2 / 2 = pf_tz v := by decide +kernel
theorem tz_d : ∀ v, v < 128 → 0 < v → 16 < 2 ^ pf_tz v - 1 → 5 + (2 ^ pf_tz v - 1) / 2 ^ 4 / 2 = pf_tz v := by decide +kernel
theorem tz_e : ∀ v, v < 128 → 0 < v → 16 < 2 ^ pf_tz v - 1 → (2 ^ pf_tz v - 1) / 2 ^ 4 ≤ 4 := by decide +kernel
theorem tz_u : ∀ v, v < 128 → 0 < v → 2 ^ pf_tz v - 1 < 64 := by decide +kernel
end
section
/-! the leaves -/
set_option maxHeartbeats 4000000 in
set_option maxRecDepth 100000 in
/-- Integer.bitCount, as it is computed -/
theorem c_I_bitCount (l : Launch) (x : Int32) : Met l y_I_bitCount wz_I_bitCount { frames := 0, cells := 0, slots := 0, locals := 0 } (va_Pc [.int x] (fun _ => True)) (QcRead (bc_5 (bc_4 (bc_3 (bc_2 (bc_1 x)))) &&& nI 63)) 0 0 (fun _ => False) := by
  refine Met.ofW (cc := b_I_bitCount) (maxL := 1) (ret := (some .int)) (by decide) rfl ?_
  intro p e s m args below meth c s₁ B hml hv
  obtain ⟨rfl, -⟩ := hv
  have hx := B.exec
  have hb := B.bytes
  have hr := B.returns
  have hlocks := B.notSynchronized
  have hown : s.vm.findClass "java/lang/Integer" = some m.cls := findClass_of_methodNamed B.named
  have ht : ∀ w ∈ lw_g, w.before ([.int x] : List Value).toArray s = true := fun w hw => atoms_spec (ws := wz_I_bitCount) B.pre w (List.mem_cons_of_mem _ hw)
  obtain ⟨Q, hQ⟩ : ∃ Q, Q = MQ below (QcRead (bc_5 (bc_4 (bc_3 (bc_2 (bc_1 x)))) &&& nI 63)) ([.int x] : List Value).toArray s 0 0 (fun _ => False) := ⟨_, rfl⟩
  rw [← hQ]
  have hl := lv_entry ([.int x]) (n := 1) (Nat.le_of_ble_eq_true rfl)
  rw [lg_entry_eq]
  generalize (lg_sl ([.int x]) ++ List.replicate (1 - (lg_sl ([.int x])).length) Slot.unset).toArray = ls at hl ⊢
  have hl : lv_has ls 1 [(0, .int x)] := hl
  show W p l e { frames := 0, cells := 0, slots := 0, locals := 0 } s m ([.int x] : List Value).toArray below meth c s.heap [] 0 0 Q (F0 m 0 ls [])
  refine lv_iload_n hx hb d_I_bitCount_0 rfl (lv_at hl 0 rfl) ?_
  refine lv_iload_n hx hb d_I_bitCount_1 rfl (lv_at hl 0 rfl) ?_
  refine lv_iconst (v := (nI 1)) hx hb d_I_bitCount_2 (by decide) ?_
  refine lv_iushr hx hb d_I_bitCount_3 rfl ?_
  refine lv_ldcw hx hb hown (ht _ tv_I_265) d_I_bitCount_4 ?_
  refine lv_iand hx hb d_I_bitCount_7 ?_
  refine lv_isub hx hb d_I_bitCount_8 ?_
  refine rw_top (y := (bc_1 x)) rfl ?_
  refine lv_istore_n (lv' := [(0, .int (bc_1 x))]) hx hb d_I_bitCount_9 rfl hl (by decide) rfl (fun ls hl => ?_)
  refine lv_iload_n hx hb d_I_bitCount_10 rfl (lv_at hl 0 rfl) ?_
  refine lv_ldcw hx hb hown (ht _ tv_I_266) d_I_bitCount_11 ?_
  refine lv_iand hx hb d_I_bitCount_14 ?_
  refine lv_iload_n hx hb d_I_bitCount_15 rfl (lv_at hl 0 rfl) ?_
  refine lv_iconst (v := (nI 2)) hx hb d_I_bitCount_16 (by decide) ?_
  refine lv_iushr hx hb d_I_bitCount_17 rfl ?_
  refine lv_ldcw hx hb hown (ht _ tv_I_266) d_I_bitCount_18 ?_
  refine lv_iand hx hb d_I_bitCount_21 ?_
  refine lv_iadd hx hb d_I_bitCount_22 ?_
  refine rw_top (y := (bc_2 (bc_1 x))) rfl ?_
  refine lv_istore_n (lv' := [(0, .int (bc_2 (bc_1 x)))]) hx hb d_I_bitCount_23 rfl hl (by decide) rfl (fun ls hl => ?_)
  refine lv_iload_n hx hb d_I_bitCount_24 rfl (lv_at hl 0 rfl) ?_
  refine lv_iload_n hx hb d_I_bitCount_25 rfl (lv_at hl 0 rfl) ?_
  refine lv_iconst (v := (nI 4)) hx hb d_I_bitCount_26 (by decide) ?_
  refine lv_iushr hx hb d_I_bitCount_27 rfl ?_
  refine lv_iadd hx hb d_I_bitCount_28 ?_
  refine lv_ldcw hx hb hown (ht _ tv_I_267) d_I_bitCount_29 ?_
  refine lv_iand hx hb d_I_bitCount_32 ?_
  refine rw_top (y := (bc_3 (bc_2 (bc_1 x)))) rfl ?_
  refine lv_istore_n (lv' := [(0, .int (bc_3 (bc_2 (bc_1 x))))]) hx hb d_I_bitCount_33 rfl hl (by decide) rfl (fun ls hl => ?_)
  refine lv_iload_n hx hb d_I_bitCount_34 rfl (lv_at hl 0 rfl) ?_
  refine lv_iload_n hx hb d_I_bitCount_35 rfl (lv_at hl 0 rfl) ?_
  refine lv_bipush (v := (nI 8)) hx hb d_I_bitCount_36 (by decide) ?_
  refine lv_iushr hx hb d_I_bitCount_38 rfl ?_
  refine lv_iadd hx hb d_I_bitCount_39 ?_
  refine rw_top (y := (bc_4 (bc_3 (bc_2 (bc_1 x))))) rfl ?_
  refine lv_istore_n (lv' := [(0, .int (bc_4 (bc_3 (bc_2 (bc_1 x)))))]) hx hb d_I_bitCount_40 rfl hl (by decide) rfl (fun ls hl => ?_)
  refine lv_iload_n hx hb d_I_bitCount_41 rfl (lv_at hl 0 rfl) ?_
  refine lv_iload_n hx hb d_I_bitCount_42 rfl (lv_at hl 0 rfl) ?_
  refine lv_bipush (v := (nI 16)) hx hb d_I_bitCount_43 (by decide) ?_
  refine lv_iushr hx hb d_I_bitCount_45 rfl ?_
  refine lv_iadd hx hb d_I_bitCount_46 ?_
  refine rw_top (y := (bc_5 (bc_4 (bc_3 (bc_2 (bc_1 x)))))) rfl ?_
  refine lv_istore_n (lv' := [(0, .int (bc_5 (bc_4 (bc_3 (bc_2 (bc_1 x))))))]) hx hb d_I_bitCount_47 rfl hl (by decide) rfl (fun ls hl => ?_)
  refine lv_iload_n hx hb d_I_bitCount_48 rfl (lv_at hl 0 rfl) ?_
  refine lv_bipush (v := (nI 63)) hx hb d_I_bitCount_49 (by decide) ?_
  refine lv_iand hx hb d_I_bitCount_51 ?_
  rw [hQ]
  exact W.iret (v := ((bc_5 (bc_4 (bc_3 (bc_2 (bc_1 x))))) &&& (nI 63))) hx hb hr (fun t ht _ => ⟨rfl, ht⟩) (fun q h => by cases h) d_I_bitCount_52
set_option maxHeartbeats 4000000 in
set_option maxRecDepth 100000 in
/-- Integer.numberOfTrailingZeros of a number of seven places, not zero -/
theorem c_I_ntz (l : Launch) (v : Nat) (hv : v < 128) (h0 : 0 < v) : Met l y_I_numberOfTrailingZeros wz_I_numberOfTrailingZeros { frames := 0, cells := 0, slots := 0, locals := 0 } (va_Pc [.int (nI v)] (fun _ => True)) (QcRead (nI (pf_tz v))) 0 0 (fun _ => False) := by
  refine Met.ofW (cc := b_I_numberOfTrailingZeros) (maxL := 2) (ret := (some .int)) (by decide) rfl ?_
  intro p e s m args below meth c s₁ B hml hv
  obtain ⟨rfl, -⟩ := hv
  have hx := B.exec
  have hb := B.bytes
  have hr := B.returns
  have hlocks := B.notSynchronized
  have hown : s.vm.findClass "java/lang/Integer" = some m.cls := findClass_of_methodNamed B.named
  have ht : ∀ w ∈ lw_g, w.before ([.int (nI v)] : List Value).toArray s = true := fun w hw => atoms_spec (ws := wz_I_numberOfTrailingZeros) B.pre w (List.mem_cons_of_mem _ hw)
  obtain ⟨Q, hQ⟩ : ∃ Q, Q = MQ below (QcRead (nI (pf_tz v))) ([.int (nI v)] : List Value).toArray s 0 0 (fun _ => False) := ⟨_, rfl⟩
  rw [← hQ]
  have hl := lv_entry ([.int (nI v)]) (n := 2) (Nat.le_of_ble_eq_true rfl)
  rw [lg_entry_eq]
  generalize (lg_sl ([.int (nI v)]) ++ List.replicate (2 - (lg_sl ([.int (nI v)])).length) Slot.unset).toArray = ls at hl ⊢
  have hl : lv_has ls 2 [(0, .int (nI v))] := hl
  show W p l e { frames := 0, cells := 0, slots := 0, locals := 0 } s m ([.int (nI v)] : List Value).toArray below meth c s.heap [] 0 0 Q (F0 m 0 ls [])
  refine lv_iload_n hx hb d_I_numberOfTrailingZeros_0 rfl (lv_at hl 0 rfl) ?_
  refine lv_iconst (v := ((-1))) hx hb d_I_numberOfTrailingZeros_1 (by decide) ?_
  refine lv_ixor hx hb d_I_numberOfTrailingZeros_2 ?_
  refine lv_iload_n hx hb d_I_numberOfTrailingZeros_3 rfl (lv_at hl 0 rfl) ?_
  refine lv_iconst (v := (nI 1)) hx hb d_I_numberOfTrailingZeros_4 (by decide) ?_
  refine lv_isub hx hb d_I_numberOfTrailingZeros_5 ?_
  refine lv_iand hx hb d_I_numberOfTrailingZeros_6 ?_
  refine rw_top (y := (nI (2 ^ pf_tz v - 1))) (tz_0 v hv h0) ?_
  have hu := tz_u v hv h0
  have hul := tz_le v hv h0
  refine lv_istore_n (lv' := [(0, .int (nI (2 ^ pf_tz v - 1)))]) hx hb d_I_numberOfTrailingZeros_7 rfl hl (by decide) rfl (fun ls hl => ?_)
  refine lv_iload_n hx hb d_I_numberOfTrailingZeros_8 rfl (lv_at hl 0 rfl) ?_
  refine lv_if_gt (tgt := 17) hx hb d_I_numberOfTrailingZeros_9 (by decide) (fun c1 => ?_) (fun c1 => ?_)
  · have hne : 2 ^ pf_tz v - 1 ≠ 0 := fun q => absurd c1 (by rw [q]; decide)
    refine lv_iconst (v := (nI 1)) hx hb d_I_numberOfTrailingZeros_17 (by decide) ?_
    refine lv_istore_n (lv' := [(1, .int (nI 1)), (0, .int (nI (2 ^ pf_tz v - 1)))]) hx hb d_I_numberOfTrailingZeros_18 rfl hl (by decide) rfl (fun ls hl => ?_)
    refine lv_iload_n hx hb d_I_numberOfTrailingZeros_19 rfl (lv_at hl 1 rfl) ?_
    refine lv_ldcw hx hb hown (ht _ tv_I_264) d_I_numberOfTrailingZeros_20 ?_
    refine rw_top (y := (nI 65536)) (by decide) ?_
    refine rw_cle (tgt := 34) hx hb d_I_numberOfTrailingZeros_23 (by decide) (by omega) (by omega) (fun c2 => ?_) (fun c2 => ?_)
    · refine lv_iload_n hx hb d_I_numberOfTrailingZeros_34 rfl (lv_at hl 1 rfl) ?_
      refine lv_sipush (v := (nI 256)) hx hb d_I_numberOfTrailingZeros_35 (by decide) ?_
      refine rw_cle (tgt := 49) hx hb d_I_numberOfTrailingZeros_38 (by decide) (by omega) (by omega) (fun c3 => ?_) (fun c3 => ?_)
      · refine lv_iload_n hx hb d_I_numberOfTrailingZeros_49 rfl (lv_at hl 1 rfl) ?_
        refine lv_bipush (v := (nI 16)) hx hb d_I_numberOfTrailingZeros_50 (by decide) ?_
        refine rw_cle (tgt := 62) hx hb d_I_numberOfTrailingZeros_52 (by decide) (by omega) (by omega) (fun c4 => ?_) (fun c4 => ?_)
        · refine lv_iload_n hx hb d_I_numberOfTrailingZeros_62 rfl (lv_at hl 1 rfl) ?_
          refine lv_iconst (v := (nI 4)) hx hb d_I_numberOfTrailingZeros_63 (by decide) ?_
          refine rw_cle (tgt := 74) hx hb d_I_numberOfTrailingZeros_64 (by decide) (by omega) (by omega) (fun c5 => ?_) (fun c5 => ?_)
          · refine lv_iload_n hx hb d_I_numberOfTrailingZeros_74 rfl (lv_at hl 0 rfl) ?_
            refine lv_iload_n hx hb d_I_numberOfTrailingZeros_75 rfl (lv_at hl 1 rfl) ?_
            refine lv_iconst (v := (nI 1)) hx hb d_I_numberOfTrailingZeros_76 (by decide) ?_
            refine rw_iushr (r := (2 ^ pf_tz v - 1) / 2 ^ 1) hx hb d_I_numberOfTrailingZeros_77 (by omega) (by omega) rfl ?_
            refine rw_iadd (r := pf_tz v) hx hb d_I_numberOfTrailingZeros_78 (by have := tz_b v hv h0 hne c4 c5; rw [Nat.pow_one]; exact this) ?_
            rw [hQ]
            exact W.iret (v := (nI (pf_tz v))) hx hb hr (fun t ht _ => ⟨rfl, ht⟩) (fun q h => by cases h) d_I_numberOfTrailingZeros_79
          · refine lv_iinc (v := (nI 3)) (lv' := [(1, .int (nI 3)), (0, .int (nI (2 ^ pf_tz v - 1)))]) hx hb d_I_numberOfTrailingZeros_67 hl (k := 0) rfl (by decide) (by decide) rfl (fun ls hl => ?_)
            refine lv_iload_n hx hb d_I_numberOfTrailingZeros_70 rfl (lv_at hl 1 rfl) ?_
            refine lv_iconst (v := (nI 2)) hx hb d_I_numberOfTrailingZeros_71 (by decide) ?_
            refine rw_iushr (r := (2 ^ pf_tz v - 1) / 2 ^ 2) hx hb d_I_numberOfTrailingZeros_72 (by omega) (by omega) rfl ?_
            refine lv_istore_n (lv' := [(0, .int (nI ((2 ^ pf_tz v - 1) / 2 ^ 2))), (1, .int (nI 3))]) hx hb d_I_numberOfTrailingZeros_73 rfl hl (by decide) rfl (fun ls hl => ?_)
            refine lv_iload_n hx hb d_I_numberOfTrailingZeros_74 rfl (lv_at hl 1 rfl) ?_
            refine lv_iload_n hx hb d_I_numberOfTrailingZeros_75 rfl (lv_at hl 0 rfl) ?_
            refine lv_iconst (v := (nI 1)) hx hb d_I_numberOfTrailingZeros_76 (by decide) ?_
            refine rw_iushr (r := ((2 ^ pf_tz v - 1) / 2 ^ 2) / 2 ^ 1) hx hb d_I_numberOfTrailingZeros_77 (by omega) (by omega) rfl ?_
            refine rw_iadd (r := pf_tz v) hx hb d_I_numberOfTrailingZeros_78 (by have := tz_c v hv h0 c4 c5; rw [Nat.pow_one]; exact this) ?_
            rw [hQ]
            exact W.iret (v := (nI (pf_tz v))) hx hb hr (fun t ht _ => ⟨rfl, ht⟩) (fun q h => by cases h) d_I_numberOfTrailingZeros_79
        · refine lv_iinc (v := (nI 5)) (lv' := [(1, .int (nI 5)), (0, .int (nI (2 ^ pf_tz v - 1)))]) hx hb d_I_numberOfTrailingZeros_55 hl (k := 0) rfl (by decide) (by decide) rfl (fun ls hl => ?_)
          refine lv_iload_n hx hb d_I_numberOfTrailingZeros_58 rfl (lv_at hl 1 rfl) ?_
          refine lv_iconst (v := (nI 4)) hx hb d_I_numberOfTrailingZeros_59 (by decide) ?_
          refine rw_iushr (r := (2 ^ pf_tz v - 1) / 2 ^ 4) hx hb d_I_numberOfTrailingZeros_60 (by omega) (by omega) rfl ?_
          refine lv_istore_n (lv' := [(0, .int (nI ((2 ^ pf_tz v - 1) / 2 ^ 4))), (1, .int (nI 5))]) hx hb d_I_numberOfTrailingZeros_61 rfl hl (by decide) rfl (fun ls hl => ?_)
          refine lv_iload_n hx hb d_I_numberOfTrailingZeros_62 rfl (lv_at hl 0 rfl) ?_
          refine lv_iconst (v := (nI 4)) hx hb d_I_numberOfTrailingZeros_63 (by decide) ?_
          have h16 := tz_e v hv h0 c4
          refine rw_cle (tgt := 74) hx hb d_I_numberOfTrailingZeros_64 (by decide) (by omega) (by omega) (fun c5 => ?_) (fun c5 => ?_)
          · refine lv_iload_n hx hb d_I_numberOfTrailingZeros_74 rfl (lv_at hl 1 rfl) ?_
            refine lv_iload_n hx hb d_I_numberOfTrailingZeros_75 rfl (lv_at hl 0 rfl) ?_
            refine lv_iconst (v := (nI 1)) hx hb d_I_numberOfTrailingZeros_76 (by decide) ?_
            refine rw_iushr (r := ((2 ^ pf_tz v - 1) / 2 ^ 4) / 2 ^ 1) hx hb d_I_numberOfTrailingZeros_77 (by omega) (by omega) rfl ?_
            refine rw_iadd (r := pf_tz v) hx hb d_I_numberOfTrailingZeros_78 (by have := tz_d v hv h0 c4; rw [Nat.pow_one]; exact this) ?_
            rw [hQ]
            exact W.iret (v := (nI (pf_tz v))) hx hb hr (fun t ht _ => ⟨rfl, ht⟩) (fun q h => by cases h) d_I_numberOfTrailingZeros_79
          · exact absurd c5 (by omega)
      · exact absurd c3 (by omega)
    · exact absurd c2 (by omega)
  · have hz : 2 ^ pf_tz v - 1 = 0 := by
      rcases Nat.eq_zero_or_pos (2 ^ pf_tz v - 1) with q | q
      · exact q
      · exact absurd (show (0 : Int32) < nI (2 ^ pf_tz v - 1) from nI_lt q (by omega)) c1
    refine lv_iload_n hx hb d_I_numberOfTrailingZeros_12 rfl (lv_at hl 0 rfl) ?_
    refine lv_bipush (v := (nI 32)) hx hb d_I_numberOfTrailingZeros_13 (by decide) ?_
    refine rw_iand (r := pf_tz v) hx hb d_I_numberOfTrailingZeros_15 (by rw [hz, tz_a v hv h0 hz]; rfl) ?_
    rw [hQ]
    exact W.iret (v := (nI (pf_tz v))) hx hb hr (fun t ht _ => ⟨rfl, ht⟩) (fun q h => by cases h) d_I_numberOfTrailingZeros_16
set_option maxHeartbeats 4000000 in
set_option maxRecDepth 100000 in
/-- Packed.at -/
theorem c_K_at (l : Launch) (D : va_G) (cA : ClassId) (h : Nat) (v0 : Value) (w k : Nat) (hw : w < 2 ^ 21) (hk : k < 8) : Met l y_K_at wz_K_at { frames := 0, cells := 0, slots := 0, locals := 0 } (va_Pc [.ref h, .int (nI k)] (wd_R D cA [(h, .inr (1, [v0, .int (nI w)]))])) (QcRead (nI (pf_dg w k))) 0 0 (fun _ => False) := by
  refine Met.ofW (cc := b_K_at) (maxL := 2) (ret := (some .int)) (by decide) rfl ?_
  intro p e s m args below meth c s₁ B hml hv
  obtain ⟨rfl, hP, hK⟩ := hv
  have hx := B.exec
  have hb := B.bytes
  have hr := B.returns
  have hlocks := B.notSynchronized
  have hown : s.vm.findClass "RankDesk$Packed" = some m.cls := findClass_of_methodNamed B.named
  have ht : ∀ w ∈ lw_g, w.before ([.ref h, .int (nI k)] : List Value).toArray s = true := fun w hw => atoms_spec (ws := wz_K_at) B.pre w (List.mem_cons_of_mem _ hw)
  obtain ⟨Q, hQ⟩ : ∃ Q, Q = MQ below (QcRead (nI (pf_dg w k))) ([.ref h, .int (nI k)] : List Value).toArray s 0 0 (fun _ => False) := ⟨_, rfl⟩
  rw [← hQ]
  have hl := lv_entry ([.ref h, .int (nI k)]) (n := 2) (Nat.le_of_ble_eq_true rfl)
  rw [lg_entry_eq]
  generalize (lg_sl ([.ref h, .int (nI k)]) ++ List.replicate (2 - (lg_sl ([.ref h, .int (nI k)])).length) Slot.unset).toArray = ls at hl ⊢
  have hl : lv_has ls 2 [(0, .ref h), (1, .int (nI k))] := hl
  show W p l e { frames := 0, cells := 0, slots := 0, locals := 0 } s m ([.ref h, .int (nI k)] : List Value).toArray below meth c s.heap [] 0 0 Q (F0 m 0 ls [])
  refine lv_aload_n hx hb d_K_at_0 rfl (lv_at hl 0 rfl) ?_
  refine gf_K_13 hx hb ht hown hK hP 0 rfl d_K_at_1 ?_
  refine lv_iconst (v := (nI 3)) hx hb d_K_at_4 (by decide) ?_
  refine lv_iload_n hx hb d_K_at_5 rfl (lv_at hl 1 rfl) ?_
  refine rw_imul (r := 3 * k) hx hb d_K_at_6 rfl ?_
  refine rw_ishr (r := w / 2 ^ (3 * k)) hx hb d_K_at_7 (by omega) (by omega) rfl ?_
  refine lv_bipush (v := (nI 7)) hx hb d_K_at_8 (by decide) ?_
  refine rw_iand (r := pf_dg w k) hx hb d_K_at_10 (zn_dg w k) ?_
  rw [hQ]
  exact W.iret (v := (nI (pf_dg w k))) hx hb hr (fun t ht _ => ⟨rfl, ht⟩) (fun q h => by cases h) d_K_at_11
set_option maxHeartbeats 4000000 in
set_option maxRecDepth 100000 in
/-- Packed.packed -/
theorem c_K_packed (l : Launch) (D : va_G) (cA : ClassId) (h : Nat) (v0 : Value) (x : Int32) : Met l y_K_packed wz_K_packed { frames := 0, cells := 0, slots := 0, locals := 0 } (va_Pc [.ref h] (wd_R D cA [(h, .inr (1, [v0, .int x]))])) (QcRead x) 0 0 (fun _ => False) := by
  refine Met.ofW (cc := b_K_packed) (maxL := 1) (ret := (some .int)) (by decide) rfl ?_
  intro p e s m args below meth c s₁ B hml hv
  obtain ⟨rfl, hP, hK⟩ := hv
  have hx := B.exec
  have hb := B.bytes
  have hr := B.returns
  have hlocks := B.notSynchronized
  have hown : s.vm.findClass "RankDesk$Packed" = some m.cls := findClass_of_methodNamed B.named
  have ht : ∀ w ∈ lw_g, w.before ([.ref h] : List Value).toArray s = true := fun w hw => atoms_spec (ws := wz_K_packed) B.pre w (List.mem_cons_of_mem _ hw)
  obtain ⟨Q, hQ⟩ : ∃ Q, Q = MQ below (QcRead x) ([.ref h] : List Value).toArray s 0 0 (fun _ => False) := ⟨_, rfl⟩
  rw [← hQ]
  have hl := lv_entry ([.ref h]) (n := 1) (Nat.le_of_ble_eq_true rfl)
  rw [lg_entry_eq]
  generalize (lg_sl ([.ref h]) ++ List.replicate (1 - (lg_sl ([.ref h])).length) Slot.unset).toArray = ls at hl ⊢
  have hl : lv_has ls 1 [(0, .ref h)] := hl
  show W p l e { frames := 0, cells := 0, slots := 0, locals := 0 } s m ([.ref h] : List Value).toArray below meth c s.heap [] 0 0 Q (F0 m 0 ls [])
  refine lv_aload_n hx hb d_K_packed_0 rfl (lv_at hl 0 rfl) ?_
  refine gf_K_13 hx hb ht hown hK hP 0 rfl d_K_packed_1 ?_
  rw [hQ]
  exact W.iret (v := x) hx hb hr (fun t ht _ => ⟨rfl, ht⟩) (fun q h => by cases h) d_K_packed_4
set_option maxHeartbeats 4000000 in
set_option maxRecDepth 100000 in
/-- RankDesk.place -/
theorem c_X_place (l : Launch) (D : va_G) (cA : ClassId) (h : Nat) (v0 v1 v3 : Value) (a : Int32) (n : Nat) (h0 : 0 < n) (hn : n ≤ 7) : Met l y_X_place wz_X_place { frames := 0, cells := 0, slots := 0, locals := 0 } (va_Pc [.ref h, .int a] (wd_R D cA [(h, .inr (0, [v0, v1, .int (nI n), v3]))])) (QcRead (nI (zn_pl a n))) 0 0 (fun _ => False) := by
  refine Met.ofW (cc := b_X_place) (maxL := 2) (ret := (some .int)) (by decide) rfl ?_
  intro p e s m args below meth c s₁ B hml hv
  obtain ⟨rfl, hP, hK⟩ := hv
  have hx := B.exec
  have hb := B.bytes
  have hr := B.returns
  have hlocks := B.notSynchronized
  have hown : s.vm.findClass "RankDesk" = some m.cls := findClass_of_methodNamed B.named
  have ht : ∀ w ∈ lw_g, w.before ([.ref h, .int a] : List Value).toArray s = true := fun w hw => atoms_spec (ws := wz_X_place) B.pre w (List.mem_cons_of_mem _ hw)
  obtain ⟨Q, hQ⟩ : ∃ Q, Q = MQ below (QcRead (nI (zn_pl a n))) ([.ref h, .int a] : List Value).toArray s 0 0 (fun _ => False) := ⟨_, rfl⟩
  rw [← hQ]
  have hl := lv_entry ([.ref h, .int a]) (n := 2) (Nat.le_of_ble_eq_true rfl)
  rw [lg_entry_eq]
  generalize (lg_sl ([.ref h, .int a]) ++ List.replicate (2 - (lg_sl ([.ref h, .int a])).length) Slot.unset).toArray = ls at hl ⊢
  have hl : lv_has ls 2 [(0, .ref h), (1, .int a)] := hl
  show W p l e { frames := 0, cells := 0, slots := 0, locals := 0 } s m ([.ref h, .int a] : List Value).toArray below meth c s.heap [] 0 0 Q (F0 m 0 ls [])
  refine lv_iload_n hx hb d_X_place_0 rfl (lv_at hl 1 rfl) ?_
  refine lv_ldc hx hb hown (ht _ tv_X_29) d_X_place_1 ?_
  refine lv_iand hx hb d_X_place_3 ?_
  refine rw_top (zn_max a) ?_
  refine lv_aload_n hx hb d_X_place_4 rfl (lv_at hl 0 rfl) ?_
  refine gf_X_16 hx hb ht hown hK hP 0 rfl d_X_place_5 ?_
  refine rw_irem (r := zn_pl a n) hx hb d_X_place_8 (by omega) (by omega) (by omega) rfl ?_
  rw [hQ]
  exact W.iret (v := (nI (zn_pl a n))) hx hb hr (fun t ht _ => ⟨rfl, ht⟩) (fun q h => by cases h) d_X_place_9
set_option maxHeartbeats 4000000 in
set_option maxRecDepth 100000 in
/-- RankDesk.rank -/
theorem c_X_rank (l : Launch) (D : va_G) (cA : ClassId) (h : Nat) (v0 v1 v2 : Value) (x : Int32) : Met l y_X_rank wz_X_rank { frames := 0, cells := 0, slots := 0, locals := 0 } (va_Pc [.ref h] (wd_R D cA [(h, .inr (0, [v0, v1, v2, .int x]))])) (QcRead x) 0 0 (fun _ => False) := by
  refine Met.ofW (cc := b_X_rank) (maxL := 1) (ret := (some .int)) (by decide) rfl ?_
  intro p e s m args below meth c s₁ B hml hv
  obtain ⟨rfl, hP, hK⟩ := hv
  have hx := B.exec
  have hb := B.bytes
  have hr := B.returns
  have hlocks := B.notSynchronized
  have hown : s.vm.findClass "RankDesk" = some m.cls := findClass_of_methodNamed B.named
  have ht : ∀ w ∈ lw_g, w.before ([.ref h] : List Value).toArray s = true := fun w hw => atoms_spec (ws := wz_X_rank) B.pre w (List.mem_cons_of_mem _ hw)
  obtain ⟨Q, hQ⟩ : ∃ Q, Q = MQ below (QcRead x) ([.ref h] : List Value).toArray s 0 0 (fun _ => False) := ⟨_, rfl⟩
  rw [← hQ]
  have hl := lv_entry ([.ref h]) (n := 1) (Nat.le_of_ble_eq_true rfl)
  rw [lg_entry_eq]
  generalize (lg_sl ([.ref h]) ++ List.replicate (1 - (lg_sl ([.ref h])).length) Slot.unset).toArray = ls at hl ⊢
  have hl : lv_has ls 1 [(0, .ref h)] := hl
  show W p l e { frames := 0, cells := 0, slots := 0, locals := 0 } s m ([.ref h] : List Value).toArray below meth c s.heap [] 0 0 Q (F0 m 0 ls [])
  refine lv_aload_n hx hb d_X_rank_0 rfl (lv_at hl 0 rfl) ?_
  refine gf_X_20 hx hb ht hown hK hP 0 rfl d_X_rank_1 ?_
  rw [hQ]
  exact W.iret (v := x) hx hb hr (fun t ht _ => ⟨rfl, ht⟩) (fun q h => by cases h) d_X_rank_4
set_option maxHeartbeats 4000000 in
set_option maxRecDepth 100000 in
/-- RankDesk.divisor: one step down -/
theorem c_X_div_step (l : Launch) (d : Nat) (ih : ∀ a b : Nat, a < 2 ^ 31 → b < d → Met l y_X_divisor wz_X_divisor { frames := d, cells := 0, slots := 0, locals := 21 * d } (va_Pc [.int (nI a), .int (nI b)] (fun _ => True)) (QcRead (nI (Nat.gcd a b))) 0 0 (fun _ => False)) (a b : Nat) (ha : a < 2 ^ 31) (hb0 : b < d + 1) (hd : d < 1000) : Met l y_X_divisor wz_X_divisor { frames := d + 1, cells := 0, slots := 0, locals := 21 * (d + 1) } (va_Pc [.int (nI a), .int (nI b)] (fun _ => True)) (QcRead (nI (Nat.gcd a b))) 0 0 (fun _ => False) := by
  refine Met.ofW (cc := b_X_divisor) (maxL := 2) (ret := (some .int)) (by decide) rfl ?_
  intro p e s m args below meth c s₁ B hml hv
  obtain ⟨rfl, -⟩ := hv
  have hx := B.exec
  have hb := B.bytes
  have hr := B.returns
  have hlocks := B.notSynchronized
  have hown : s.vm.findClass "RankDesk" = some m.cls := findClass_of_methodNamed B.named
  have ht : ∀ w ∈ lw_g, w.before ([.int (nI a), .int (nI b)] : List Value).toArray s = true := fun w hw => atoms_spec (ws := wz_X_divisor) B.pre w (List.mem_cons_of_mem _ hw)
  obtain ⟨Q, hQ⟩ : ∃ Q, Q = MQ below (QcRead (nI (Nat.gcd a b))) ([.int (nI a), .int (nI b)] : List Value).toArray s 0 0 (fun _ => False) := ⟨_, rfl⟩
  rw [← hQ]
  have hl := lv_entry ([.int (nI a), .int (nI b)]) (n := 2) (Nat.le_of_ble_eq_true rfl)
  rw [lg_entry_eq]
  generalize (lg_sl ([.int (nI a), .int (nI b)]) ++ List.replicate (2 - (lg_sl ([.int (nI a), .int (nI b)])).length) Slot.unset).toArray = ls at hl ⊢
  have hl : lv_has ls 2 [(0, .int (nI a)), (1, .int (nI b))] := hl
  show W p l e { frames := d + 1, cells := 0, slots := 0, locals := 21 * (d + 1) } s m ([.int (nI a), .int (nI b)] : List Value).toArray below meth c s.heap [] 0 0 Q (F0 m 0 ls [])
  refine lv_iload_n hx hb d_X_divisor_0 rfl (lv_at hl 1 rfl) ?_
  refine rw_zne (tgt := 8) hx hb d_X_divisor_1 (by decide) (by omega) (fun c1 => ?_) (fun c1 => ?_)
  · refine lv_iload_n hx hb d_X_divisor_8 rfl (lv_at hl 1 rfl) ?_
    refine lv_iload_n hx hb d_X_divisor_9 rfl (lv_at hl 0 rfl) ?_
    refine lv_iload_n hx hb d_X_divisor_10 rfl (lv_at hl 1 rfl) ?_
    refine rw_irem (r := a % b) hx hb d_X_divisor_11 (by omega) (by omega) (by omega) rfl ?_
    refine rc_S (As := [.int (nI b), .int (nI (a % b))]) (rest := []) ⟨hx, hb, hml, hown, ht⟩ (ih b (a % b) (by omega) (by have := Nat.mod_lt a (show 0 < b by omega); omega)) mb_X_divisor tt_X_divisor tl_X_52 rfl rfl ⟨Nat.le_refl _, by show 8 + (2 + 11) + 21 * d ≤ 21 * (d + 1); omega⟩ ⟨fun _ _ _ _ q => q, fun _ _ _ => ⟨rfl, trivial⟩⟩ rfl hl.1 rfl (Nat.le_of_ble_eq_true rfl) d_X_divisor_12 ⟨Nat.zero_le _, Nat.zero_le _⟩ ?_
    refine rw_top (y := (nI (Nat.gcd a b))) (by rw [Nat.gcd_comm b, ← Nat.gcd_rec, Nat.gcd_comm]) ?_
    rw [hQ]
    exact W.iret (v := (nI (Nat.gcd a b))) hx hb hr (fun t ht _ => ⟨rfl, ht⟩) (fun q h => by cases h) d_X_divisor_15
  · refine lv_iload_n hx hb d_X_divisor_4 rfl (lv_at hl 0 rfl) ?_
    refine lv_goto (tgt := 15) hx hb d_X_divisor_5 (by decide) ?_
    refine rw_top (y := (nI (Nat.gcd a b))) (by rw [c1, Nat.gcd_zero_right]) ?_
    rw [hQ]
    exact W.iret (v := (nI (Nat.gcd a b))) hx hb hr (fun t ht _ => ⟨rfl, ht⟩) (fun q h => by cases h) d_X_divisor_15
/-- RankDesk.divisor: the greatest common divisor, in as many frames as the second number -/
theorem c_X_divisor (l : Launch) : ∀ (d : Nat), d < 1000 → ∀ a b : Nat, a < 2 ^ 31 → b < d → Met l y_X_divisor wz_X_divisor { frames := d, cells := 0, slots := 0, locals := 21 * d } (va_Pc [.int (nI a), .int (nI b)] (fun _ => True)) (QcRead (nI (Nat.gcd a b))) 0 0 (fun _ => False)
  | 0, _, _, _, _, h => absurd h (Nat.not_lt_zero _)
  | d + 1, hd, a, b, ha, h => c_X_div_step l d (c_X_divisor l d (by omega)) a b ha h (by omega)
end
section
/-! numbers for the walks of Packed -/
theorem pf_fac_pos (k : Nat) : 0 < pf_fac k := by
  unfold pf_fac; split <;> omega
theorem pf_fac_le (k : Nat) : pf_fac k ≤ 5040 := by
  unfold pf_fac; split <;> omega
theorem zn_p2 {n : Nat} (h : n ≤ 7) : 1 ≤ 2 ^ n ∧ 2 ^ n ≤ 128 := by
  rcases (show n = 0 ∨ n = 1 ∨ n = 2 ∨ n = 3 ∨ n = 4 ∨ n = 5 ∨ n = 6 ∨ n = 7 by omega) with rfl | rfl | rfl | rfl | rfl | rfl | rfl | rfl <;> decide
theorem zn_clr' : ∀ a, a < 128 → ∀ k, k < 8 → nI a &&& (nI (2 ^ k) ^^^ (-1)) = nI (a &&& (127 ^^^ 2 ^ k)) := by decide +kernel
theorem zn_clr {a k : Nat} (ha : a < 128) (hk : k < 8) : nI a &&& (nI (2 ^ k) ^^^ (-1)) = nI (a &&& (127 ^^^ 2 ^ k)) := zn_clr' a ha k hk
theorem zn_low' : ∀ a, a < 128 → nI a &&& (nI a - nI 1) = nI (a &&& (a - 1)) := by decide +kernel
theorem zn_low {a : Nat} (ha : a < 128) : nI a &&& (nI a - nI 1) = nI (a &&& (a - 1)) := zn_low' a ha
theorem zn_andlt {a b : Nat} (ha : a < 128) : a &&& b < 128 := Nat.lt_of_le_of_lt Nat.and_le_left ha
theorem zn_or8 {a j : Nat} (h : j < 8) : 8 * a ||| j = 8 * a + j := (Nat.two_pow_add_eq_or_of_lt (i := 3) h a).symm
theorem zn_p3 {j : Nat} (h : j < 7) : 2 ^ (3 * (7 - j)) = 8 * 2 ^ (3 * (7 - (j + 1))) := by
  rw [show 3 * (7 - j) = 3 * (7 - (j + 1)) + 3 by omega, Nat.pow_add]; omega
theorem zn_p3le (j : Nat) : 2 ^ (3 * (7 - j)) ≤ 2 ^ 21 := Nat.pow_le_pow_right (by decide) (by omega)
theorem zn_nsh {a k : Nat} (ha : a < 8) (hk : k < 7) : a * 2 ^ (3 * k) < 2 ^ 21 := by
  have h1 : 2 ^ (3 * k) ≤ 2 ^ 18 := Nat.pow_le_pow_right (by decide) (by omega)
  have h2 : a * 2 ^ (3 * k) ≤ 7 * 2 ^ 18 := Nat.mul_le_mul (by omega) h1
  omega
theorem pf_tz_pos {v : Nat} (h : pf_tz v < 7) : 0 < v := by
  rcases Nat.eq_zero_or_pos v with rfl | q
  · exact absurd h (by decide)
  · exact q
theorem pf_clr_lt : ∀ (j b : Nat), b < 128 → pf_clr j b < 128
  | 0, _, h => h
  | j + 1, b, h => pf_clr_lt j _ (zn_andlt h)
/-- the state of Packed.of stays small -/
theorem pf_ot_b {n r : Nat} (hn : n ≤ 7) : ∀ k, (∀ j, j < k → pf_on n j (pf_ot n r j) < 8) → (pf_ot n r k).1 < 128 ∧ (pf_ot n r k).2.1 ≤ r ∧ (pf_ot n r k).2.2 < 2 ^ (3 * k)
  | 0, _ => ⟨by have := zn_p2 hn; show 2 ^ n - 1 < 128; omega, Nat.le_refl _, by show 0 < 1; omega⟩
  | k + 1, h => by
    obtain ⟨h1, h2, h3⟩ := pf_ot_b (r := r) hn k (fun j hj => h j (by omega))
    refine ⟨zn_andlt h1, Nat.le_trans (Nat.mod_le _ _) h2, ?_⟩
    show (pf_ot n r k).2.2 ||| pf_on n k (pf_ot n r k) * 2 ^ (3 * k) < 2 ^ (3 * (k + 1))
    have hk := h k (by omega)
    have e : 2 ^ (3 * (k + 1)) = 8 * 2 ^ (3 * k) := by rw [show 3 * (k + 1) = 3 * k + 3 by omega, Nat.pow_add]; omega
    apply Nat.or_lt_two_pow
    · rw [e]; omega
    · rw [e]; exact Nat.mul_lt_mul_of_pos_right hk (Nat.two_pow_pos _)
theorem pf_rt_b {n w : Nat} (hn : n ≤ 7) : ∀ k, (pf_rt n w k).1 < 128 ∧ (pf_rt n w k).2 ≤ 35280 * k
  | 0 => ⟨by have := zn_p2 hn; show 2 ^ n - 1 < 128; omega, Nat.le_refl _⟩
  | k + 1 => by
    obtain ⟨h1, h2⟩ := pf_rt_b (w := w) hn k
    refine ⟨zn_andlt h1, ?_⟩
    show (pf_rt n w k).2 + pf_pc ((pf_rt n w k).1 &&& (2 ^ pf_dg w k - 1)) * pf_fac (n - 1 - k) ≤ _
    have h3 : pf_pc ((pf_rt n w k).1 &&& (2 ^ pf_dg w k - 1)) ≤ 7 := by unfold pf_pc; omega
    have h4 := Nat.mul_le_mul h3 (pf_fac_le (n - 1 - k))
    omega
/-- an order with two places exchanged, as it is computed -/
def pf_xc (w a b : Nat) : Nat := (w ^^^ (pf_dg w a ^^^ pf_dg w b) * 2 ^ (3 * a)) ^^^ (pf_dg w a ^^^ pf_dg w b) * 2 ^ (3 * b)
theorem zn_x8 (w a b : Nat) : pf_dg w a ^^^ pf_dg w b < 8 := Nat.xor_lt_two_pow (n := 3) (pf_dg_lt w a) (pf_dg_lt w b)
theorem pf_pc_le (v : Nat) : pf_pc v ≤ 7 := by unfold pf_pc; omega
theorem zn_ldg {w k : Nat} : 2 ^ pf_dg w k ≤ 128 ∧ 1 ≤ 2 ^ pf_dg w k := by
  have h := zn_p2 (show pf_dg w k ≤ 7 by have := pf_dg_lt w k; omega)
  omega
/-- what is read and lies before the start stays as it was -/
theorem rd_keep {D : va_G} {cl : List vw_C} {rs : va_W} {H0 H : Heap} {A : Nat → Prop} {locs : List Loc} (h : va_P D cl rs H0) (hS : va_S A H0 H locs) (hAe : A = va_A [] H0.size) : va_P D cl rs H :=
  h.kept (fun k q hk => hS.2.1 q.1 (h k q hk).lt (by
    rw [hAe]
    rintro (⟨j, e, hj⟩ | h2)
    · simp at hj
    · have := (h k q hk).lt; omega))
end
section
/-! Packed: what reads -/
set_option maxHeartbeats 4000000 in
set_option maxRecDepth 100000 in
/-- Packed(n, row) -/
theorem c_K_init (l : Launch) (D : va_G) (cA : ClassId) (sz h : Nat) (v0 v1 : Value) (x y : Int32) : Met l y_K_init wz_K_init { frames := 1, cells := 0, slots := 0, locals := 12 } (va_Pc [.ref h, .int x, .int y] (wd_Z D cA sz [(h, .inr (1, [v0, v1]))])) (va_Qv (fun _ : Unit => True) (fun _ t => wd_T D cA (va_A [(h, .inr (1, [v0, v1]))] sz) [(h, .inr (1, [.int x, .int y]))] t) (va_A [(h, .inr (1, [v0, v1]))] sz)) 0 0 (va_A [(h, .inr (1, [v0, v1]))] sz) := by
  refine Met.ofW (cc := b_K_init) (maxL := 3) (ret := none) (by decide) rfl ?_
  intro p e s m args below meth c s₁ B hml hv
  obtain ⟨rfl, hsz, hP, hK, hD0⟩ := hv
  have hx := B.exec
  have hb := B.bytes
  have hr := B.returns
  have hlocks := B.notSynchronized
  have hown : s.vm.findClass "RankDesk$Packed" = some m.cls := findClass_of_methodNamed B.named
  have ht : ∀ w ∈ lw_g, w.before ([.ref h, .int x, .int y] : List Value).toArray s = true := fun w hw => atoms_spec (ws := wz_K_init) B.pre w (List.mem_cons_of_mem _ hw)
  have hin : meth.name = "<init>" := (name_of_methodNamed B.named B.method).1
  subst hsz
  have hD := hD0.self (sz := s.heap.size)
  obtain ⟨A, hAe⟩ : ∃ A, A = va_A [(h, .inr (1, [v0, v1]))] s.heap.size := ⟨_, rfl⟩
  rw [← hAe] at hD ⊢
  have hA : ∀ q : Nat, s.heap.size ≤ q → A q := fun q h => by rw [hAe]; exact Or.inr h
  have hS : va_S A s.heap s.heap [] := va_S.rf
  have hP : va_P D classes [(h, .inr (1, [v0, v1]))] s.heap := hP
  obtain ⟨Q, hQ⟩ : ∃ Q, Q = MQ below (va_Qv (fun _ : Unit => True) (fun _ t => wd_T D cA A [(h, .inr (1, [.int x, .int y]))] t) A) ([.ref h, .int x, .int y] : List Value).toArray s 0 0 A := ⟨_, rfl⟩
  rw [← hQ]
  have hl := lv_entry ([.ref h, .int x, .int y]) (n := 3) (Nat.le_of_ble_eq_true rfl)
  rw [lg_entry_eq]
  generalize (lg_sl ([.ref h, .int x, .int y]) ++ List.replicate (3 - (lg_sl ([.ref h, .int x, .int y])).length) Slot.unset).toArray = ls at hl ⊢
  have hl : lv_has ls 3 [(0, .ref h), (1, .int x), (2, .int y)] := hl
  show W p l e { frames := 1, cells := 0, slots := 0, locals := 12 } s m ([.ref h, .int x, .int y] : List Value).toArray below meth c s.heap [] 0 0 Q (F0 m 0 ls [])
  refine lv_aload_n hx hb d_K_init_0 rfl (lv_at hl 0 rfl) ?_
  refine W.objInit hx hb hown (ht _ tl_K_1) (ht _ tm_O_init) (ht _ to_code) rfl (by rw [hml]; exact hl.1) rfl d_K_init_1 (Nat.le_of_ble_eq_true rfl) (Nat.le_of_ble_eq_true rfl) ?_
  refine W.eq (g2 := F0 m 4 ls []) rfl ?_
  refine lv_aload_n hx hb d_K_init_4 rfl (lv_at hl 0 rfl) ?_
  refine lv_iload_n hx hb d_K_init_5 rfl (lv_at hl 1 rfl) ?_
  refine pw_K_7 hx hb ht hown hK hP hD hS hin 0 rfl d_K_init_6 (fun H locs hP hD hS => ?_)
  have hP : va_P D classes [(h, .inr (1, [.int x, v1]))] H := hP
  have hD : va_D A [(h, .inr (1, [.int x, v1]))] := hD
  refine lv_aload_n hx hb d_K_init_9 rfl (lv_at hl 0 rfl) ?_
  refine lv_iload_n hx hb d_K_init_10 rfl (lv_at hl 2 rfl) ?_
  refine pw_K_13 hx hb ht hown hK hP hD hS hin 0 rfl d_K_init_11 (fun H locs hP hD hS => ?_)
  have hP : va_P D classes [(h, .inr (1, [.int x, .int y]))] H := hP
  have hD : va_D A [(h, .inr (1, [.int x, .int y]))] := hD
  rw [hQ]
  exact W.vret hx hb hr (fun t ht hW => ⟨⟨(), rfl, trivial, by rw [ht]; exact hP, va_K.moved hW.alike hK, hD⟩, hS.F ht⟩) hS.2.2 d_K_init_14
set_option maxHeartbeats 4000000 in
set_option maxRecDepth 100000 in
/-- Packed.rank -/
theorem c_K_rank (l : Launch) (D : va_G) (cA : ClassId) (h fa : Nat) (ff : Nat → Int32) (n w : Nat) (hn0 : 1 ≤ n) (hn : n ≤ 7) (hw : w < 2 ^ 21) (hff : ∀ k, k < 8 → ff k = nI (pf_fac k)) : Met l y_K_rank wz_K_rank { frames := 1, cells := 0, slots := 0, locals := 21 } (va_Pc [.ref h, .ref fa] (wd_R D cA [(h, .inr (1, [.int (nI n), .int (nI w)])), (fa, .inl (cA, 8, .inl ff))])) (QcRead (nI (pf_rk n w))) 0 0 (fun _ => False) := by
  refine Met.ofW (cc := b_K_rank) (maxL := 6) (ret := (some .int)) (by decide) rfl ?_
  intro p e s m args below meth c s₁ B hml hv
  obtain ⟨rfl, hP, hK⟩ := hv
  have hx := B.exec
  have hb := B.bytes
  have hr := B.returns
  have hlocks := B.notSynchronized
  have hown : s.vm.findClass "RankDesk$Packed" = some m.cls := findClass_of_methodNamed B.named
  have ht : ∀ w ∈ lw_g, w.before ([.ref h, .ref fa] : List Value).toArray s = true := fun w hw => atoms_spec (ws := wz_K_rank) B.pre w (List.mem_cons_of_mem _ hw)
  obtain ⟨Q, hQ⟩ : ∃ Q, Q = MQ below (QcRead (nI (pf_rk n w))) ([.ref h, .ref fa] : List Value).toArray s 0 0 (fun _ => False) := ⟨_, rfl⟩
  rw [← hQ]
  have hl := lv_entry ([.ref h, .ref fa]) (n := 6) (Nat.le_of_ble_eq_true rfl)
  rw [lg_entry_eq]
  generalize (lg_sl ([.ref h, .ref fa]) ++ List.replicate (6 - (lg_sl ([.ref h, .ref fa])).length) Slot.unset).toArray = ls at hl ⊢
  have hl : lv_has ls 6 [(0, .ref h), (1, .ref fa)] := hl
  show W p l e { frames := 1, cells := 0, slots := 0, locals := 21 } s m ([.ref h, .ref fa] : List Value).toArray below meth c s.heap [] 0 0 Q (F0 m 0 ls [])
  have hp2 := zn_p2 hn
  have lp : ∀ (t k : Nat) (ls : Array Slot), k + t = n → lv_has ls 6 [(0, .ref h), (1, .ref fa), (2, .int (nI ((pf_rt n w k).1))), (3, .int (nI ((pf_rt n w k).2))), (4, .int (nI k))] → W p l e { frames := 1, cells := 0, slots := 0, locals := 21 } s m ([.ref h, .ref fa] : List Value).toArray below meth c s.heap [] 0 0 Q (F0 m 14 ls []) := by
    intro t
    induction t with
    | zero =>
      intro k ls hk hl
      have hb2 := pf_rt_b (w := w) hn k
      refine lv_iload hx hb d_K_rank_14 (lv_at hl 4 rfl) ?_
      refine lv_aload_n hx hb d_K_rank_16 rfl (lv_at hl 0 rfl) ?_
      refine gf_K_7 hx hb ht hown hK hP 0 rfl d_K_rank_17 ?_
      refine rw_cge (tgt := 72) hx hb d_K_rank_20 (by decide) (by omega) (by omega) (fun c1 => ?_) (fun c1 => ?_)
      · refine lv_iload_n hx hb d_K_rank_72 rfl (lv_at hl 3 rfl) ?_
        refine rw_top (y := (nI (pf_rk n w))) (by rw [show k = n by omega]; rfl) ?_
        rw [hQ]
        exact W.iret (v := (nI (pf_rk n w))) hx hb hr (fun t ht _ => ⟨rfl, ht⟩) (fun q h => by cases h) d_K_rank_73
      · exact absurd c1 (by omega)
    | succ t ih =>
      intro k ls hk hl
      have hb2 := pf_rt_b (w := w) hn k
      have hd8 := pf_dg_lt w k
      have hd2 := zn_ldg (w := w) (k := k)
      refine lv_iload hx hb d_K_rank_14 (lv_at hl 4 rfl) ?_
      refine lv_aload_n hx hb d_K_rank_16 rfl (lv_at hl 0 rfl) ?_
      refine gf_K_7 hx hb ht hown hK hP 0 rfl d_K_rank_17 ?_
      refine rw_cge (tgt := 72) hx hb d_K_rank_20 (by decide) (by omega) (by omega) (fun c1 => ?_) (fun c1 => ?_)
      · exact absurd c1 (by omega)
      · refine lv_aload_n hx hb d_K_rank_23 rfl (lv_at hl 0 rfl) ?_
        refine lv_iload hx hb d_K_rank_24 (lv_at hl 4 rfl) ?_
        refine rc_V (As := [.int (nI k)]) (rest := []) ⟨hx, hb, hml, hown, ht⟩ (c_K_at l D cA h (.int (nI n)) w k hw (by omega)) mb_K_at tm_K_at ts_K_at tl_K_25 rfl rfl ⟨Nat.le_of_ble_eq_true rfl, Nat.le_of_ble_eq_true rfl⟩ (pr_V (q0 := 0) (ci := 1) (pr_R hP hK [0] rfl) hP hK rfl rfl rfl) rfl hl.1 rfl (Nat.le_of_ble_eq_true rfl) d_K_rank_26 ⟨Nat.le_of_ble_eq_true rfl, Nat.le_of_ble_eq_true rfl⟩ ?_
        refine lv_istore (lv' := [(5, .int (nI (pf_dg w k))), (0, .ref h), (1, .ref fa), (2, .int (nI ((pf_rt n w k).1))), (3, .int (nI ((pf_rt n w k).2))), (4, .int (nI k))]) hx hb d_K_rank_29 hl (by decide) rfl (fun ls hl => ?_)
        refine lv_iload_n hx hb d_K_rank_31 rfl (lv_at hl 4 rfl) ?_
        refine lv_iload_n hx hb d_K_rank_32 rfl (lv_at hl 3 rfl) ?_
        refine lv_iconst (v := (nI 1)) hx hb d_K_rank_33 (by decide) ?_
        refine lv_iload hx hb d_K_rank_34 (lv_at hl 0 rfl) ?_
        refine rw_ishl (r := 2 ^ pf_dg w k) hx hb d_K_rank_36 (by omega) (Nat.one_mul _) (by omega) ?_
        refine lv_iconst (v := (nI 1)) hx hb d_K_rank_37 (by decide) ?_
        refine rw_isub (r := 2 ^ pf_dg w k - 1) hx hb d_K_rank_38 (by omega) ?_
        refine rw_iand (r := ((pf_rt n w k).1) &&& (2 ^ pf_dg w k - 1)) hx hb d_K_rank_39 rfl ?_
        refine rc_S (As := [.int (nI (((pf_rt n w k).1) &&& (2 ^ pf_dg w k - 1)))]) (rest := [.int (nI ((pf_rt n w k).2))]) ⟨hx, hb, hml, hown, ht⟩ (c_I_bitCount l (nI (((pf_rt n w k).1) &&& (2 ^ pf_dg w k - 1)))) mb_I_bitCount tt_I_bitCount tl_K_28 rfl rfl ⟨Nat.le_of_ble_eq_true rfl, Nat.le_of_ble_eq_true rfl⟩ ⟨fun _ _ _ _ q => q, fun _ _ _ => ⟨rfl, trivial⟩⟩ rfl hl.1 rfl (Nat.le_of_ble_eq_true rfl) d_K_rank_40 ⟨Nat.le_of_ble_eq_true rfl, Nat.le_of_ble_eq_true rfl⟩ ?_
        refine rw_top (y := nI (pf_pc (((pf_rt n w k).1) &&& (2 ^ pf_dg w k - 1)))) (bc_ok _ (zn_andlt hb2.1)) ?_
        refine lv_aload_n hx hb d_K_rank_43 rfl (lv_at hl 2 rfl) ?_
        refine lv_aload_n hx hb d_K_rank_44 rfl (lv_at hl 1 rfl) ?_
        refine gf_K_7 hx hb ht hown hK hP 0 rfl d_K_rank_45 ?_
        refine lv_iconst (v := (nI 1)) hx hb d_K_rank_48 (by decide) ?_
        refine rw_isub (r := n - 1) hx hb d_K_rank_49 (by omega) ?_
        refine lv_iload hx hb d_K_rank_50 (lv_at hl 5 rfl) ?_
        refine rw_isub (r := n - 1 - k) hx hb d_K_rank_52 (by omega) ?_
        refine rw_iald (v := (nI (pf_fac (n - 1 - k)))) hx hb hK hP 1 rfl (by omega) (by omega) (hff _ (by omega)) d_K_rank_53 ?_
        refine rw_imul (r := (pf_pc (((pf_rt n w k).1) &&& (2 ^ pf_dg w k - 1))) * (pf_fac (n - 1 - k))) hx hb d_K_rank_54 rfl ?_
        refine rw_iadd (r := (pf_rt n w (k + 1)).2) hx hb d_K_rank_55 rfl ?_
        refine lv_istore_n (lv' := [(3, .int (nI ((pf_rt n w (k + 1)).2))), (5, .int (nI (pf_dg w k))), (0, .ref h), (1, .ref fa), (2, .int (nI ((pf_rt n w k).1))), (4, .int (nI k))]) hx hb d_K_rank_56 rfl hl (by decide) rfl (fun ls hl => ?_)
        refine lv_iload_n hx hb d_K_rank_57 rfl (lv_at hl 4 rfl) ?_
        refine lv_iconst (v := (nI 1)) hx hb d_K_rank_58 (by decide) ?_
        refine lv_iload hx hb d_K_rank_59 (lv_at hl 1 rfl) ?_
        refine rw_ishl (r := 2 ^ pf_dg w k) hx hb d_K_rank_61 (by omega) (Nat.one_mul _) (by omega) ?_
        refine lv_iconst (v := ((-1))) hx hb d_K_rank_62 (by decide) ?_
        refine lv_ixor hx hb d_K_rank_63 ?_
        refine lv_iand hx hb d_K_rank_64 ?_
        refine rw_top (y := (nI ((pf_rt n w (k + 1)).1))) (zn_clr hb2.1 hd8) ?_
        refine lv_istore_n (lv' := [(2, .int (nI ((pf_rt n w (k + 1)).1))), (3, .int (nI ((pf_rt n w (k + 1)).2))), (5, .int (nI (pf_dg w k))), (0, .ref h), (1, .ref fa), (4, .int (nI k))]) hx hb d_K_rank_65 rfl hl (by decide) rfl (fun ls hl => ?_)
        refine lv_iinc (v := (nI (k + 1))) (lv' := [(4, .int (nI (k + 1))), (2, .int (nI ((pf_rt n w (k + 1)).1))), (3, .int (nI ((pf_rt n w (k + 1)).2))), (5, .int (nI (pf_dg w k))), (0, .ref h), (1, .ref fa)]) hx hb d_K_rank_66 hl (k := 5) rfl (nI_add k 1) (by decide) rfl (fun ls hl => ?_)
        refine lv_goto (tgt := 14) hx hb d_K_rank_69 (by decide) ?_
        exact ih (k + 1) ls (by omega) (lv_sub hl [4, 5, 1, 2, 0] rfl)
  refine lv_iconst (v := (nI 1)) hx hb d_K_rank_0 (by decide) ?_
  refine lv_aload_n hx hb d_K_rank_1 rfl (lv_at hl 0 rfl) ?_
  refine gf_K_7 hx hb ht hown hK hP 0 rfl d_K_rank_2 ?_
  refine rw_ishl (r := 2 ^ n) hx hb d_K_rank_5 (by omega) (Nat.one_mul _) (by omega) ?_
  refine lv_iconst (v := (nI 1)) hx hb d_K_rank_6 (by decide) ?_
  refine rw_isub (r := 2 ^ n - 1) hx hb d_K_rank_7 (by omega) ?_
  refine lv_istore_n (lv' := [(2, .int (nI (2 ^ n - 1))), (0, .ref h), (1, .ref fa)]) hx hb d_K_rank_8 rfl hl (by decide) rfl (fun ls hl => ?_)
  refine lv_iconst (v := (nI 0)) hx hb d_K_rank_9 (by decide) ?_
  refine lv_istore_n (lv' := [(3, .int (nI 0)), (2, .int (nI (2 ^ n - 1))), (0, .ref h), (1, .ref fa)]) hx hb d_K_rank_10 rfl hl (by decide) rfl (fun ls hl => ?_)
  refine lv_iconst (v := (nI 0)) hx hb d_K_rank_11 (by decide) ?_
  refine lv_istore (lv' := [(4, .int (nI 0)), (3, .int (nI 0)), (2, .int (nI (2 ^ n - 1))), (0, .ref h), (1, .ref fa)]) hx hb d_K_rank_12 hl (by decide) rfl (fun ls hl => ?_)
  exact lp n 0 ls (by omega) (lv_sub hl [3, 4, 2, 1, 0] rfl)
set_option maxHeartbeats 4000000 in
set_option maxRecDepth 100000 in
/-- Packed.ring -/
theorem c_K_ring (l : Launch) (D : va_G) (cA : ClassId) (h : Nat) (v0 : Value) (w k0 ma : Nat) (hw : w < 2 ^ 21) (hk0 : k0 < 8) (hma : ma < 128) (hok : (pf_rg w 8 0 k0).2 = true) : Met l y_K_ring wz_K_ring { frames := 1, cells := 0, slots := 0, locals := 21 } (va_Pc [.ref h, .int (nI k0), .int (nI ma)] (wd_R D cA [(h, .inr (1, [v0, .int (nI w)]))])) (QcRead (nI (ma ||| (pf_rg w 8 0 k0).1))) 0 0 (fun _ => False) := by
  refine Met.ofW (cc := b_K_ring) (maxL := 5) (ret := (some .int)) (by decide) rfl ?_
  intro p e s m args below meth c s₁ B hml hv
  obtain ⟨rfl, hP, hK⟩ := hv
  have hx := B.exec
  have hb := B.bytes
  have hr := B.returns
  have hlocks := B.notSynchronized
  have hown : s.vm.findClass "RankDesk$Packed" = some m.cls := findClass_of_methodNamed B.named
  have ht : ∀ w ∈ lw_g, w.before ([.ref h, .int (nI k0), .int (nI ma)] : List Value).toArray s = true := fun w hw => atoms_spec (ws := wz_K_ring) B.pre w (List.mem_cons_of_mem _ hw)
  obtain ⟨Q, hQ⟩ : ∃ Q, Q = MQ below (QcRead (nI (ma ||| (pf_rg w 8 0 k0).1))) ([.ref h, .int (nI k0), .int (nI ma)] : List Value).toArray s 0 0 (fun _ => False) := ⟨_, rfl⟩
  rw [← hQ]
  have hl := lv_entry ([.ref h, .int (nI k0), .int (nI ma)]) (n := 5) (Nat.le_of_ble_eq_true rfl)
  rw [lg_entry_eq]
  generalize (lg_sl ([.ref h, .int (nI k0), .int (nI ma)]) ++ List.replicate (5 - (lg_sl ([.ref h, .int (nI k0), .int (nI ma)])).length) Slot.unset).toArray = ls at hl ⊢
  have hl : lv_has ls 5 [(0, .ref h), (1, .int (nI k0)), (2, .int (nI ma))] := hl
  show W p l e { frames := 1, cells := 0, slots := 0, locals := 21 } s m ([.ref h, .int (nI k0), .int (nI ma)] : List Value).toArray below meth c s.heap [] 0 0 Q (F0 m 0 ls [])
  have lp : ∀ (f x k : Nat) (ls : Array Slot), x < 256 → k < 8 → (pf_rg w f x k).2 = true → (pf_rg w f x k).1 = (pf_rg w 8 0 k0).1 → lv_has ls 5 [(0, .ref h), (2, .int (nI ma)), (3, .int (nI x)), (4, .int (nI k))] → W p l e { frames := 1, cells := 0, slots := 0, locals := 21 } s m ([.ref h, .int (nI k0), .int (nI ma)] : List Value).toArray below meth c s.heap [] 0 0 Q (F0 m 5 ls []) := by
    intro f
    induction f with
    | zero =>
      intro x k ls h1 h2 h3
      exact absurd h3 (by simp [pf_rg])
    | succ f ih =>
      intro x k ls h1 h2 h3 h4 hl
      have hq := zn_p2 (show k ≤ 7 by omega)
      refine lv_iload_n hx hb d_K_ring_5 rfl (lv_at hl 2 rfl) ?_
      refine lv_iload hx hb d_K_ring_6 (lv_at hl 3 rfl) ?_
      refine rw_ishr (r := x / 2 ^ k) hx hb d_K_ring_8 (by omega) (by omega) rfl ?_
      refine lv_iconst (v := (nI 1)) hx hb d_K_ring_9 (by decide) ?_
      refine rw_iand (r := x / 2 ^ k % 2) hx hb d_K_ring_10 (zn_b2 _) ?_
      refine rw_zne (tgt := 32) hx hb d_K_ring_11 (by decide) (by omega) (fun c1 => ?_) (fun c1 => ?_)
      · rw [pf_rg, if_neg c1] at h4
        have h4 : x = (pf_rg w 8 0 k0).1 := h4
        refine lv_iload_n hx hb d_K_ring_32 rfl (lv_at hl 1 rfl) ?_
        refine lv_iload_n hx hb d_K_ring_33 rfl (lv_at hl 2 rfl) ?_
        refine rw_ior (r := ma ||| (pf_rg w 8 0 k0).1) hx hb d_K_ring_34 (by rw [h4]) ?_
        rw [hQ]
        exact W.iret (v := (nI (ma ||| (pf_rg w 8 0 k0).1))) hx hb hr (fun t ht _ => ⟨rfl, ht⟩) (fun q h => by cases h) d_K_ring_35
      · rw [pf_rg, if_pos c1] at h3 h4
        refine lv_iload_n hx hb d_K_ring_14 rfl (lv_at hl 2 rfl) ?_
        refine lv_iconst (v := (nI 1)) hx hb d_K_ring_15 (by decide) ?_
        refine lv_iload hx hb d_K_ring_16 (lv_at hl 3 rfl) ?_
        refine rw_ishl (r := 2 ^ k) hx hb d_K_ring_18 (by omega) (Nat.one_mul _) (by omega) ?_
        refine rw_ior (r := x ||| (2 ^ k)) hx hb d_K_ring_19 rfl ?_
        refine lv_istore_n (lv' := [(3, .int (nI (x ||| (2 ^ k)))), (0, .ref h), (2, .int (nI ma)), (4, .int (nI k))]) hx hb d_K_ring_20 rfl hl (by decide) rfl (fun ls hl => ?_)
        refine lv_aload_n hx hb d_K_ring_21 rfl (lv_at hl 1 rfl) ?_
        refine lv_iload hx hb d_K_ring_22 (lv_at hl 3 rfl) ?_
        refine rc_V (As := [.int (nI k)]) (rest := []) ⟨hx, hb, hml, hown, ht⟩ (c_K_at l D cA h v0 w k hw h2) mb_K_at tm_K_at ts_K_at tl_K_25 rfl rfl ⟨Nat.le_of_ble_eq_true rfl, Nat.le_of_ble_eq_true rfl⟩ (pr_V (q0 := 0) (ci := 1) (pr_R hP hK [0] rfl) hP hK rfl rfl rfl) rfl hl.1 rfl (Nat.le_of_ble_eq_true rfl) d_K_ring_24 ⟨Nat.le_of_ble_eq_true rfl, Nat.le_of_ble_eq_true rfl⟩ ?_
        refine lv_istore (lv' := [(4, .int (nI (pf_dg w k))), (3, .int (nI (x ||| (2 ^ k)))), (0, .ref h), (2, .int (nI ma))]) hx hb d_K_ring_27 hl (by decide) rfl (fun ls hl => ?_)
        refine lv_goto (tgt := 5) hx hb d_K_ring_29 (by decide) ?_
        exact ih (x ||| 2 ^ k) (pf_dg w k) ls (Nat.or_lt_two_pow (n := 8) h1 (by omega)) (pf_dg_lt w k) h3 h4 (lv_sub hl [2, 3, 1, 0] rfl)
  refine lv_iconst (v := (nI 0)) hx hb d_K_ring_0 (by decide) ?_
  refine lv_istore_n (lv' := [(3, .int (nI 0)), (0, .ref h), (1, .int (nI k0)), (2, .int (nI ma))]) hx hb d_K_ring_1 rfl hl (by decide) rfl (fun ls hl => ?_)
  refine lv_iload_n hx hb d_K_ring_2 rfl (lv_at hl 2 rfl) ?_
  refine lv_istore (lv' := [(4, .int (nI k0)), (3, .int (nI 0)), (0, .ref h), (1, .int (nI k0)), (2, .int (nI ma))]) hx hb d_K_ring_3 hl (by decide) rfl (fun ls hl => ?_)
  exact lp 8 0 k0 ls (by omega) hk0 hok rfl (lv_sub hl [2, 4, 1, 0] rfl)
end
section
/-! Packed: what makes -/
set_option maxHeartbeats 4000000 in
set_option maxRecDepth 100000 in
/-- Packed.first -/
theorem c_K_first (l : Launch) (D : va_G) (cA : ClassId) (sz n : Nat) (hn : n ≤ 7) : Met l y_K_first wz_K_first { frames := 2, cells := 1, slots := 2, locals := 34 } (va_Pc [.int (nI n)] (wd_M D cA sz [])) (va_Qr (fun _ : Unit => True) (fun _ ra t => wd_T D cA (va_A [] sz) [(ra, .inr (1, [.int (nI n), .int (nI (pf_pk (fun k => k) n 0))]))] t) (va_A [] sz)) 1 2 (va_A [] sz) := by
  refine Met.ofW (cc := b_K_first) (maxL := 3) (ret := (some (.object "RankDesk$Packed"))) (by decide) rfl ?_
  intro p e s m args below meth c s₁ B hml hv
  obtain ⟨rfl, hsz, hP, hK⟩ := hv
  have hx := B.exec
  have hb := B.bytes
  have hr := B.returns
  have hlocks := B.notSynchronized
  have hown : s.vm.findClass "RankDesk$Packed" = some m.cls := findClass_of_methodNamed B.named
  have ht : ∀ w ∈ lw_g, w.before ([.int (nI n)] : List Value).toArray s = true := fun w hw => atoms_spec (ws := wz_K_first) B.pre w (List.mem_cons_of_mem _ hw)
  subst hsz
  obtain ⟨A, hAe⟩ : ∃ A, A = va_A [] s.heap.size := ⟨_, rfl⟩
  rw [← hAe]
  have hA : ∀ q : Nat, s.heap.size ≤ q → A q := fun q h => by rw [hAe]; exact Or.inr h
  have hS : va_S A s.heap s.heap [] := va_S.rf
  have hPr0 : va_P D classes [] s.heap := hP
  have hPr := hPr0
  have hP : va_P D classes [] s.heap := fun k q h => by simp at h
  have hD : va_D A [] := ⟨fun i j p q h => by simp at h, fun k q h => by simp at h⟩
  obtain ⟨Q, hQ⟩ : ∃ Q, Q = MQ below (va_Qr (fun _ : Unit => True) (fun _ ra t => wd_T D cA A [(ra, .inr (1, [.int (nI n), .int (nI (pf_pk (fun k => k) n 0))]))] t) A) ([.int (nI n)] : List Value).toArray s 1 2 A := ⟨_, rfl⟩
  rw [← hQ]
  have hl := lv_entry ([.int (nI n)]) (n := 3) (Nat.le_of_ble_eq_true rfl)
  rw [lg_entry_eq]
  generalize (lg_sl ([.int (nI n)]) ++ List.replicate (3 - (lg_sl ([.int (nI n)])).length) Slot.unset).toArray = ls at hl ⊢
  have hl : lv_has ls 3 [(0, .int (nI n))] := hl
  show W p l e { frames := 2, cells := 1, slots := 2, locals := 34 } s m ([.int (nI n)] : List Value).toArray below meth c s.heap [] 0 0 Q (F0 m 0 ls [])
  have lp : ∀ (j a : Nat) (ls : Array Slot), j ≤ n → a < 2 ^ (3 * (7 - j)) → pf_pk (fun k => k) j a = pf_pk (fun k => k) n 0 → lv_has ls 3 [(0, .int (nI n)), (1, .int (nI a)), (2, .int (dI j))] → W p l e { frames := 2, cells := 1, slots := 2, locals := 34 } s m ([.int (nI n)] : List Value).toArray below meth c s.heap [] 0 0 Q (F0 m 6 ls []) := by
    intro j
    induction j with
    | zero =>
      intro a ls h1 h2 h3 hl
      have h3 : a = pf_pk (fun k => k) n 0 := h3
      refine lv_iload_n hx hb d_K_first_6 rfl (lv_at hl 2 rfl) ?_
      refine rw_dlt0 (tgt := 22) hx hb d_K_first_7 (by decide) ?_
      refine va_new (ci := 1) (fs := [.int (nI 0), .int (nI 0)]) (C := "RankDesk$Packed") (T := F_K) (N := 2) hx hb ht iw_K ft_K fo_K hown (ht _ tk_K_8) (ht _ ti_K) (ht _ tn_K) hK hP hD hS hA rfl (fun j hj => by rcases (show j = 0 ∨ j = 1 by omega) with rfl | rfl <;> rfl) (Nat.le_of_ble_eq_true rfl) (Nat.le_of_ble_eq_true rfl) d_K_first_22 (fun q H hP hD hS => ?_)
      have hP : va_P D classes [(q, .inr (1, [.int (nI 0), .int (nI 0)]))] H := hP
      have hD : va_D A [(q, .inr (1, [.int (nI 0), .int (nI 0)]))] := hD
      refine W.widen (k := 1) (n := 2) (by omega) (by omega) ?_
      refine lv_dup hx hb d_K_first_25 rfl ?_
      refine lv_iload_n hx hb d_K_first_26 rfl (lv_at hl 0 rfl) ?_
      refine lv_iload_n hx hb d_K_first_27 rfl (lv_at hl 1 rfl) ?_
      subst h3
      refine cl_v (D := D) (cA := cA) (wc := [(q, .inr (1, [.int (nI 0), .int (nI 0)]))]) (wr := []) (w1 := fun _ => [(q, .inr (1, [.int (nI n), .int (nI (pf_pk (fun k => k) n 0))]))]) (rn_I (As := [.int (nI n), .int (nI (pf_pk (fun k => k) n 0))]) (rest := [.ref q]) ⟨hx, hb, hml, hown, ht⟩ (c_K_init l D cA H.size q (.int (nI 0)) (.int (nI 0)) (nI n) (nI (pf_pk (fun k => k) n 0))) mb_K_init tm_K_init rfl tl_K_16 rfl rfl ⟨Nat.le_of_ble_eq_true rfl, Nat.le_of_ble_eq_true rfl⟩ (pr_Z hP hK hD [0] rfl (by decide) rfl) rfl hl.1 rfl (Nat.le_of_ble_eq_true rfl) d_K_first_28 ⟨Nat.le_of_ble_eq_true rfl, Nat.le_of_ble_eq_true rfl⟩) hP hD hS hA [0] [] rfl rfl (by decide) (by decide) (fun u_ H locs hw hP hD hS => ?_)
      have hP : va_P D classes [(q, .inr (1, [.int (nI n), .int (nI (pf_pk (fun k => k) n 0))]))] H := hP
      have hD : va_D A [(q, .inr (1, [.int (nI n), .int (nI (pf_pk (fun k => k) n 0))]))] := hD
      rw [hQ]
      exact W.aret (v := .ref q) hx hb hr (Or.inl ⟨_, rfl⟩) (Or.inr ⟨_, rfl⟩) (fun t ht hW => ⟨⟨(), q, rfl, trivial, by rw [ht]; exact hP, va_K.moved hW.alike hK, hD⟩, hS.F ht⟩) hS.2.2 d_K_first_31
    | succ j ih =>
      intro a ls h1 h2 h3 hl
      rw [dI_succ] at hl
      have hq := zn_p3 (show j < 7 by omega)
      have hq2 := zn_p3le j
      refine lv_iload_n hx hb d_K_first_6 rfl (lv_at hl 2 rfl) ?_
      refine rw_dlt1 (tgt := 22) hx hb d_K_first_7 (by decide) (by omega) ?_
      refine lv_iload_n hx hb d_K_first_10 rfl (lv_at hl 1 rfl) ?_
      refine lv_iconst (v := (nI 3)) hx hb d_K_first_11 (by decide) ?_
      refine rw_ishl (r := 8 * a) hx hb d_K_first_12 (by omega) (by omega) (by omega) ?_
      refine lv_iload_n hx hb d_K_first_13 rfl (lv_at hl 2 rfl) ?_
      refine rw_ior (r := 8 * a + j) hx hb d_K_first_14 (zn_or8 (by omega)) ?_
      refine lv_istore_n (lv' := [(1, .int (nI (8 * a + j))), (0, .int (nI n)), (2, .int (nI j))]) hx hb d_K_first_15 rfl hl (by decide) rfl (fun ls hl => ?_)
      refine lv_iinc (v := (dI j)) (lv' := [(2, .int (dI j)), (1, .int (nI (8 * a + j))), (0, .int (nI n))]) hx hb d_K_first_16 hl (k := 2) rfl (dI_dec j) (by decide) rfl (fun ls hl => ?_)
      refine lv_goto (tgt := 6) hx hb d_K_first_19 (by decide) ?_
      exact ih (8 * a + j) ls (by omega) (by omega) h3 (lv_sub hl [2, 1, 0] rfl)
  refine lv_iconst (v := (nI 0)) hx hb d_K_first_0 (by decide) ?_
  refine lv_istore_n (lv' := [(1, .int (nI 0)), (0, .int (nI n))]) hx hb d_K_first_1 rfl hl (by decide) rfl (fun ls hl => ?_)
  refine lv_iload_n hx hb d_K_first_2 rfl (lv_at hl 1 rfl) ?_
  refine lv_iconst (v := (nI 1)) hx hb d_K_first_3 (by decide) ?_
  refine rw_isubD hx hb d_K_first_4 ?_
  refine lv_istore_n (lv' := [(2, .int (dI n)), (1, .int (nI 0)), (0, .int (nI n))]) hx hb d_K_first_5 rfl hl (by decide) rfl (fun ls hl => ?_)
  exact lp n 0 ls (Nat.le_refl n) (Nat.two_pow_pos _) rfl (lv_sub hl [2, 1, 0] rfl)
set_option maxHeartbeats 4000000 in
set_option maxRecDepth 100000 in
/-- Packed.exchanged -/
theorem c_K_exchanged (l : Launch) (D : va_G) (cA : ClassId) (sz h n w a b : Nat) (hw : w < 2 ^ 21) (ha : a < 7) (hb0 : b < 7) : Met l y_K_exchanged wz_K_exchanged { frames := 2, cells := 1, slots := 2, locals := 34 } (va_Pc [.ref h, .int (nI a), .int (nI b)] (wd_M D cA sz [(h, .inr (1, [.int (nI n), .int (nI w)]))])) (va_Qr (fun _ : Unit => True) (fun _ ra t => wd_T D cA (va_A [] sz) [(ra, .inr (1, [.int (nI n), .int (nI (pf_xc w a b))]))] t) (va_A [] sz)) 1 2 (va_A [] sz) := by
  refine Met.ofW (cc := b_K_exchanged) (maxL := 4) (ret := (some (.object "RankDesk$Packed"))) (by decide) rfl ?_
  intro p e s m args below meth c s₁ B hml hv
  obtain ⟨rfl, hsz, hP, hK⟩ := hv
  have hx := B.exec
  have hb := B.bytes
  have hr := B.returns
  have hlocks := B.notSynchronized
  have hown : s.vm.findClass "RankDesk$Packed" = some m.cls := findClass_of_methodNamed B.named
  have ht : ∀ w ∈ lw_g, w.before ([.ref h, .int (nI a), .int (nI b)] : List Value).toArray s = true := fun w hw => atoms_spec (ws := wz_K_exchanged) B.pre w (List.mem_cons_of_mem _ hw)
  subst hsz
  obtain ⟨A, hAe⟩ : ∃ A, A = va_A [] s.heap.size := ⟨_, rfl⟩
  rw [← hAe]
  have hA : ∀ q : Nat, s.heap.size ≤ q → A q := fun q h => by rw [hAe]; exact Or.inr h
  have hS : va_S A s.heap s.heap [] := va_S.rf
  have hPr0 : va_P D classes [(h, .inr (1, [.int (nI n), .int (nI w)]))] s.heap := hP
  have hPr := hPr0
  have hP : va_P D classes [] s.heap := fun k q h => by simp at h
  have hD : va_D A [] := ⟨fun i j p q h => by simp at h, fun k q h => by simp at h⟩
  obtain ⟨Q, hQ⟩ : ∃ Q, Q = MQ below (va_Qr (fun _ : Unit => True) (fun _ ra t => wd_T D cA A [(ra, .inr (1, [.int (nI n), .int (nI (pf_xc w a b))]))] t) A) ([.ref h, .int (nI a), .int (nI b)] : List Value).toArray s 1 2 A := ⟨_, rfl⟩
  rw [← hQ]
  have hl := lv_entry ([.ref h, .int (nI a), .int (nI b)]) (n := 4) (Nat.le_of_ble_eq_true rfl)
  rw [lg_entry_eq]
  generalize (lg_sl ([.ref h, .int (nI a), .int (nI b)]) ++ List.replicate (4 - (lg_sl ([.ref h, .int (nI a), .int (nI b)])).length) Slot.unset).toArray = ls at hl ⊢
  have hl : lv_has ls 4 [(0, .ref h), (1, .int (nI a)), (2, .int (nI b))] := hl
  show W p l e { frames := 2, cells := 1, slots := 2, locals := 34 } s m ([.ref h, .int (nI a), .int (nI b)] : List Value).toArray below meth c s.heap [] 0 0 Q (F0 m 0 ls [])
  have h8 := zn_x8 w a b
  have hsa := zn_nsh h8 ha
  have hsb := zn_nsh h8 hb0
  refine lv_aload_n hx hb d_K_exchanged_0 rfl (lv_at hl 0 rfl) ?_
  refine lv_iload_n hx hb d_K_exchanged_1 rfl (lv_at hl 1 rfl) ?_
  refine rc_V (As := [.int (nI a)]) (rest := []) ⟨hx, hb, hml, hown, ht⟩ (c_K_at l D cA h (.int (nI n)) w a hw (by omega)) mb_K_at tm_K_at ts_K_at tl_K_25 rfl rfl ⟨Nat.le_of_ble_eq_true rfl, Nat.le_of_ble_eq_true rfl⟩ (pr_V (q0 := 0) (ci := 1) (pr_R hPr hK [0] rfl) hPr hK rfl rfl rfl) rfl hl.1 rfl (Nat.le_of_ble_eq_true rfl) d_K_exchanged_2 ⟨Nat.le_of_ble_eq_true rfl, Nat.le_of_ble_eq_true rfl⟩ ?_
  refine lv_aload_n hx hb d_K_exchanged_5 rfl (lv_at hl 0 rfl) ?_
  refine lv_iload_n hx hb d_K_exchanged_6 rfl (lv_at hl 2 rfl) ?_
  refine rc_V (As := [.int (nI b)]) (rest := [.int (nI (pf_dg w a))]) ⟨hx, hb, hml, hown, ht⟩ (c_K_at l D cA h (.int (nI n)) w b hw (by omega)) mb_K_at tm_K_at ts_K_at tl_K_25 rfl rfl ⟨Nat.le_of_ble_eq_true rfl, Nat.le_of_ble_eq_true rfl⟩ (pr_V (q0 := 0) (ci := 1) (pr_R hPr hK [0] rfl) hPr hK rfl rfl rfl) rfl hl.1 rfl (Nat.le_of_ble_eq_true rfl) d_K_exchanged_7 ⟨Nat.le_of_ble_eq_true rfl, Nat.le_of_ble_eq_true rfl⟩ ?_
  refine rw_ixor (r := (pf_dg w a) ^^^ (pf_dg w b)) hx hb d_K_exchanged_10 rfl ?_
  refine lv_istore_n (lv' := [(3, .int (nI ((pf_dg w a) ^^^ (pf_dg w b)))), (0, .ref h), (1, .int (nI a)), (2, .int (nI b))]) hx hb d_K_exchanged_11 rfl hl (by decide) rfl (fun ls hl => ?_)
  refine va_new (ci := 1) (fs := [.int (nI 0), .int (nI 0)]) (C := "RankDesk$Packed") (T := F_K) (N := 2) hx hb ht iw_K ft_K fo_K hown (ht _ tk_K_8) (ht _ ti_K) (ht _ tn_K) hK hP hD hS hA rfl (fun j hj => by rcases (show j = 0 ∨ j = 1 by omega) with rfl | rfl <;> rfl) (Nat.le_of_ble_eq_true rfl) (Nat.le_of_ble_eq_true rfl) d_K_exchanged_12 (fun q H hP hD hS => ?_)
  have hP : va_P D classes [(q, .inr (1, [.int (nI 0), .int (nI 0)]))] H := hP
  have hD : va_D A [(q, .inr (1, [.int (nI 0), .int (nI 0)]))] := hD
  refine W.widen (k := 1) (n := 2) (by omega) (by omega) ?_
  have hPr := rd_keep hPr0 hS hAe
  refine lv_dup hx hb d_K_exchanged_15 rfl ?_
  refine lv_aload_n hx hb d_K_exchanged_16 rfl (lv_at hl 1 rfl) ?_
  refine gf_K_7 hx hb ht hown hK hPr 0 rfl d_K_exchanged_17 ?_
  refine lv_aload_n hx hb d_K_exchanged_20 rfl (lv_at hl 1 rfl) ?_
  refine gf_K_13 hx hb ht hown hK hPr 0 rfl d_K_exchanged_21 ?_
  refine lv_iload_n hx hb d_K_exchanged_24 rfl (lv_at hl 0 rfl) ?_
  refine lv_iconst (v := (nI 3)) hx hb d_K_exchanged_25 (by decide) ?_
  refine lv_iload_n hx hb d_K_exchanged_26 rfl (lv_at hl 2 rfl) ?_
  refine rw_imul (r := 3 * a) hx hb d_K_exchanged_27 rfl ?_
  refine rw_ishl (r := ((pf_dg w a) ^^^ (pf_dg w b)) * 2 ^ (3 * a)) hx hb d_K_exchanged_28 (by omega) rfl (by omega) ?_
  refine rw_ixor (r := w ^^^ (((pf_dg w a) ^^^ (pf_dg w b)) * 2 ^ (3 * a))) hx hb d_K_exchanged_29 rfl ?_
  refine lv_iload_n hx hb d_K_exchanged_30 rfl (lv_at hl 0 rfl) ?_
  refine lv_iconst (v := (nI 3)) hx hb d_K_exchanged_31 (by decide) ?_
  refine lv_iload_n hx hb d_K_exchanged_32 rfl (lv_at hl 3 rfl) ?_
  refine rw_imul (r := 3 * b) hx hb d_K_exchanged_33 rfl ?_
  refine rw_ishl (r := ((pf_dg w a) ^^^ (pf_dg w b)) * 2 ^ (3 * b)) hx hb d_K_exchanged_34 (by omega) rfl (by omega) ?_
  refine rw_ixor (r := pf_xc w a b) hx hb d_K_exchanged_35 rfl ?_
  refine cl_v (D := D) (cA := cA) (wc := [(q, .inr (1, [.int (nI 0), .int (nI 0)]))]) (wr := []) (w1 := fun _ => [(q, .inr (1, [.int (nI n), .int (nI (pf_xc w a b))]))]) (rn_I (As := [.int (nI n), .int (nI (pf_xc w a b))]) (rest := [.ref q]) ⟨hx, hb, hml, hown, ht⟩ (c_K_init l D cA H.size q (.int (nI 0)) (.int (nI 0)) (nI n) (nI (pf_xc w a b))) mb_K_init tm_K_init rfl tl_K_16 rfl rfl ⟨Nat.le_of_ble_eq_true rfl, Nat.le_of_ble_eq_true rfl⟩ (pr_Z hP hK hD [0] rfl (by decide) rfl) rfl hl.1 rfl (Nat.le_of_ble_eq_true rfl) d_K_exchanged_36 ⟨Nat.le_of_ble_eq_true rfl, Nat.le_of_ble_eq_true rfl⟩) hP hD hS hA [0] [] rfl rfl (by decide) (by decide) (fun u_ H locs hw hP hD hS => ?_)
  have hP : va_P D classes [(q, .inr (1, [.int (nI n), .int (nI (pf_xc w a b))]))] H := hP
  have hD : va_D A [(q, .inr (1, [.int (nI n), .int (nI (pf_xc w a b))]))] := hD
  have hPr := rd_keep hPr0 hS hAe
  rw [hQ]
  exact W.aret (v := .ref q) hx hb hr (Or.inl ⟨_, rfl⟩) (Or.inr ⟨_, rfl⟩) (fun t ht hW => ⟨⟨(), q, rfl, trivial, by rw [ht]; exact hP, va_K.moved hW.alike hK, hD⟩, hS.F ht⟩) hS.2.2 d_K_exchanged_39
set_option maxHeartbeats 4000000 in
set_option maxRecDepth 100000 in
/-- Packed.then -/
theorem c_K_then (l : Launch) (D : va_G) (cA : ClassId) (sz h o n w v : Nat) (vo : Value) (hn : n ≤ 7) (hw : w < 2 ^ 21) (hv0 : v < 2 ^ 21) : Met l y_K_then wz_K_then { frames := 2, cells := 1, slots := 2, locals := 34 } (va_Pc [.ref h, .ref o] (wd_M D cA sz [(h, .inr (1, [.int (nI n), .int (nI w)])), (o, .inr (1, [vo, .int (nI v)]))])) (va_Qr (fun _ : Unit => True) (fun _ ra t => wd_T D cA (va_A [] sz) [(ra, .inr (1, [.int (nI n), .int (nI (pf_pk (fun k => pf_dg v (pf_dg w k)) n 0))]))] t) (va_A [] sz)) 1 2 (va_A [] sz) := by
  refine Met.ofW (cc := b_K_then) (maxL := 4) (ret := (some (.object "RankDesk$Packed"))) (by decide) rfl ?_
  intro p e s m args below meth c s₁ B hml hv
  obtain ⟨rfl, hsz, hP, hK⟩ := hv
  have hx := B.exec
  have hb := B.bytes
  have hr := B.returns
  have hlocks := B.notSynchronized
  have hown : s.vm.findClass "RankDesk$Packed" = some m.cls := findClass_of_methodNamed B.named
  have ht : ∀ w ∈ lw_g, w.before ([.ref h, .ref o] : List Value).toArray s = true := fun w hw => atoms_spec (ws := wz_K_then) B.pre w (List.mem_cons_of_mem _ hw)
  subst hsz
  obtain ⟨A, hAe⟩ : ∃ A, A = va_A [] s.heap.size := ⟨_, rfl⟩
  rw [← hAe]
  have hA : ∀ q : Nat, s.heap.size ≤ q → A q := fun q h => by rw [hAe]; exact Or.inr h
  have hS : va_S A s.heap s.heap [] := va_S.rf
  have hPr0 : va_P D classes [(h, .inr (1, [.int (nI n), .int (nI w)])), (o, .inr (1, [vo, .int (nI v)]))] s.heap := hP
  have hPr := hPr0
  have hP : va_P D classes [] s.heap := fun k q h => by simp at h
  have hD : va_D A [] := ⟨fun i j p q h => by simp at h, fun k q h => by simp at h⟩
  obtain ⟨Q, hQ⟩ : ∃ Q, Q = MQ below (va_Qr (fun _ : Unit => True) (fun _ ra t => wd_T D cA A [(ra, .inr (1, [.int (nI n), .int (nI (pf_pk (fun k => pf_dg v (pf_dg w k)) n 0))]))] t) A) ([.ref h, .ref o] : List Value).toArray s 1 2 A := ⟨_, rfl⟩
  rw [← hQ]
  have hl := lv_entry ([.ref h, .ref o]) (n := 4) (Nat.le_of_ble_eq_true rfl)
  rw [lg_entry_eq]
  generalize (lg_sl ([.ref h, .ref o]) ++ List.replicate (4 - (lg_sl ([.ref h, .ref o])).length) Slot.unset).toArray = ls at hl ⊢
  have hl : lv_has ls 4 [(0, .ref h), (1, .ref o)] := hl
  show W p l e { frames := 2, cells := 1, slots := 2, locals := 34 } s m ([.ref h, .ref o] : List Value).toArray below meth c s.heap [] 0 0 Q (F0 m 0 ls [])
  have lp : ∀ (j a : Nat) (ls : Array Slot), j ≤ n → a < 2 ^ (3 * (7 - j)) → pf_pk (fun k => pf_dg v (pf_dg w k)) j a = pf_pk (fun k => pf_dg v (pf_dg w k)) n 0 → lv_has ls 4 [(0, .ref h), (1, .ref o), (2, .int (nI a)), (3, .int (dI j))] → W p l e { frames := 2, cells := 1, slots := 2, locals := 34 } s m ([.ref h, .ref o] : List Value).toArray below meth c s.heap [] 0 0 Q (F0 m 9 ls []) := by
    intro j
    induction j with
    | zero =>
      intro a ls h1 h2 h3 hl
      have h3 : a = pf_pk (fun k => pf_dg v (pf_dg w k)) n 0 := h3
      refine lv_iload_n hx hb d_K_then_9 rfl (lv_at hl 3 rfl) ?_
      refine rw_dlt0 (tgt := 33) hx hb d_K_then_10 (by decide) ?_
      refine va_new (ci := 1) (fs := [.int (nI 0), .int (nI 0)]) (C := "RankDesk$Packed") (T := F_K) (N := 2) hx hb ht iw_K ft_K fo_K hown (ht _ tk_K_8) (ht _ ti_K) (ht _ tn_K) hK hP hD hS hA rfl (fun j hj => by rcases (show j = 0 ∨ j = 1 by omega) with rfl | rfl <;> rfl) (Nat.le_of_ble_eq_true rfl) (Nat.le_of_ble_eq_true rfl) d_K_then_33 (fun q H hP hD hS => ?_)
      have hP : va_P D classes [(q, .inr (1, [.int (nI 0), .int (nI 0)]))] H := hP
      have hD : va_D A [(q, .inr (1, [.int (nI 0), .int (nI 0)]))] := hD
      refine W.widen (k := 1) (n := 2) (by omega) (by omega) ?_
      have hPr := rd_keep hPr0 hS hAe
      refine lv_dup hx hb d_K_then_36 rfl ?_
      refine lv_aload_n hx hb d_K_then_37 rfl (lv_at hl 0 rfl) ?_
      refine gf_K_7 hx hb ht hown hK hPr 0 rfl d_K_then_38 ?_
      refine lv_iload_n hx hb d_K_then_41 rfl (lv_at hl 2 rfl) ?_
      subst h3
      refine cl_v (D := D) (cA := cA) (wc := [(q, .inr (1, [.int (nI 0), .int (nI 0)]))]) (wr := []) (w1 := fun _ => [(q, .inr (1, [.int (nI n), .int (nI (pf_pk (fun k => pf_dg v (pf_dg w k)) n 0))]))]) (rn_I (As := [.int (nI n), .int (nI (pf_pk (fun k => pf_dg v (pf_dg w k)) n 0))]) (rest := [.ref q]) ⟨hx, hb, hml, hown, ht⟩ (c_K_init l D cA H.size q (.int (nI 0)) (.int (nI 0)) (nI n) (nI (pf_pk (fun k => pf_dg v (pf_dg w k)) n 0))) mb_K_init tm_K_init rfl tl_K_16 rfl rfl ⟨Nat.le_of_ble_eq_true rfl, Nat.le_of_ble_eq_true rfl⟩ (pr_Z hP hK hD [0] rfl (by decide) rfl) rfl hl.1 rfl (Nat.le_of_ble_eq_true rfl) d_K_then_42 ⟨Nat.le_of_ble_eq_true rfl, Nat.le_of_ble_eq_true rfl⟩) hP hD hS hA [0] [] rfl rfl (by decide) (by decide) (fun u_ H locs hw hP hD hS => ?_)
      have hP : va_P D classes [(q, .inr (1, [.int (nI n), .int (nI (pf_pk (fun k => pf_dg v (pf_dg w k)) n 0))]))] H := hP
      have hD : va_D A [(q, .inr (1, [.int (nI n), .int (nI (pf_pk (fun k => pf_dg v (pf_dg w k)) n 0))]))] := hD
      have hPr := rd_keep hPr0 hS hAe
      rw [hQ]
      exact W.aret (v := .ref q) hx hb hr (Or.inl ⟨_, rfl⟩) (Or.inr ⟨_, rfl⟩) (fun t ht hW => ⟨⟨(), q, rfl, trivial, by rw [ht]; exact hP, va_K.moved hW.alike hK, hD⟩, hS.F ht⟩) hS.2.2 d_K_then_45
    | succ j ih =>
      intro a ls h1 h2 h3 hl
      rw [dI_succ] at hl
      have hq := zn_p3 (show j < 7 by omega)
      have hq2 := zn_p3le j
      have hd8 := pf_dg_lt v (pf_dg w j)
      refine lv_iload_n hx hb d_K_then_9 rfl (lv_at hl 3 rfl) ?_
      refine rw_dlt1 (tgt := 33) hx hb d_K_then_10 (by decide) (by omega) ?_
      refine lv_iload_n hx hb d_K_then_13 rfl (lv_at hl 2 rfl) ?_
      refine lv_iconst (v := (nI 3)) hx hb d_K_then_14 (by decide) ?_
      refine rw_ishl (r := 8 * a) hx hb d_K_then_15 (by omega) (by omega) (by omega) ?_
      refine lv_aload_n hx hb d_K_then_16 rfl (lv_at hl 1 rfl) ?_
      refine lv_aload_n hx hb d_K_then_17 rfl (lv_at hl 0 rfl) ?_
      refine lv_iload_n hx hb d_K_then_18 rfl (lv_at hl 3 rfl) ?_
      refine rc_V (As := [.int (nI j)]) (rest := [.ref o, .int (nI (8 * a))]) ⟨hx, hb, hml, hown, ht⟩ (c_K_at l D cA h (.int (nI n)) w j hw (by omega)) mb_K_at tm_K_at ts_K_at tl_K_25 rfl rfl ⟨Nat.le_of_ble_eq_true rfl, Nat.le_of_ble_eq_true rfl⟩ (pr_V (q0 := 0) (ci := 1) (pr_R hPr hK [0] rfl) hPr hK rfl rfl rfl) rfl hl.1 rfl (Nat.le_of_ble_eq_true rfl) d_K_then_19 ⟨Nat.le_of_ble_eq_true rfl, Nat.le_of_ble_eq_true rfl⟩ ?_
      refine rc_V (As := [.int (nI (pf_dg w j))]) (rest := [.int (nI (8 * a))]) ⟨hx, hb, hml, hown, ht⟩ (c_K_at l D cA o vo v (pf_dg w j) hv0 (pf_dg_lt w j)) mb_K_at tm_K_at ts_K_at tl_K_25 rfl rfl ⟨Nat.le_of_ble_eq_true rfl, Nat.le_of_ble_eq_true rfl⟩ (pr_V (q0 := 1) (ci := 1) (pr_R hPr hK [1] rfl) hPr hK rfl rfl rfl) rfl hl.1 rfl (Nat.le_of_ble_eq_true rfl) d_K_then_22 ⟨Nat.le_of_ble_eq_true rfl, Nat.le_of_ble_eq_true rfl⟩ ?_
      refine rw_ior (r := 8 * a + pf_dg v (pf_dg w j)) hx hb d_K_then_25 (zn_or8 hd8) ?_
      refine lv_istore_n (lv' := [(2, .int (nI (8 * a + pf_dg v (pf_dg w j)))), (0, .ref h), (1, .ref o), (3, .int (nI j))]) hx hb d_K_then_26 rfl hl (by decide) rfl (fun ls hl => ?_)
      refine lv_iinc (v := (dI j)) (lv' := [(3, .int (dI j)), (2, .int (nI (8 * a + pf_dg v (pf_dg w j)))), (0, .ref h), (1, .ref o)]) hx hb d_K_then_27 hl (k := 3) rfl (dI_dec j) (by decide) rfl (fun ls hl => ?_)
      refine lv_goto (tgt := 9) hx hb d_K_then_30 (by decide) ?_
      exact ih (8 * a + pf_dg v (pf_dg w j)) ls (by omega) (by omega) h3 (lv_sub hl [2, 3, 1, 0] rfl)
  refine lv_iconst (v := (nI 0)) hx hb d_K_then_0 (by decide) ?_
  refine lv_istore_n (lv' := [(2, .int (nI 0)), (0, .ref h), (1, .ref o)]) hx hb d_K_then_1 rfl hl (by decide) rfl (fun ls hl => ?_)
  refine lv_aload_n hx hb d_K_then_2 rfl (lv_at hl 1 rfl) ?_
  refine gf_K_7 hx hb ht hown hK hPr 0 rfl d_K_then_3 ?_
  refine lv_iconst (v := (nI 1)) hx hb d_K_then_6 (by decide) ?_
  refine rw_isubD hx hb d_K_then_7 ?_
  refine lv_istore_n (lv' := [(3, .int (dI n)), (2, .int (nI 0)), (0, .ref h), (1, .ref o)]) hx hb d_K_then_8 rfl hl (by decide) rfl (fun ls hl => ?_)
  exact lp n 0 ls (Nat.le_refl n) (Nat.two_pow_pos _) rfl (lv_sub hl [2, 3, 1, 0] rfl)
set_option maxHeartbeats 4000000 in
set_option maxRecDepth 100000 in
/-- Packed.of -/
theorem c_K_of (l : Launch) (D : va_G) (cA : ClassId) (sz fa : Nat) (ff : Nat → Int32) (n r : Nat) (hn0 : 1 ≤ n) (hn : n ≤ 7) (hr0 : r < pf_fac n) (hff : ∀ k, k < 8 → ff k = nI (pf_fac k)) : Met l y_K_of wz_K_of { frames := 2, cells := 1, slots := 2, locals := 34 } (va_Pc [.int (nI n), .int (nI r), .ref fa] (wd_M D cA sz [(fa, .inl (cA, 8, .inl ff))])) (va_Qr (fun _ : Unit => True) (fun _ ra t => wd_T D cA (va_A [] sz) [(ra, .inr (1, [.int (nI n), .int (nI (pf_un n r))]))] t) (va_A [] sz)) 1 2 (va_A [] sz) := by
  refine Met.ofW (cc := b_K_of) (maxL := 10) (ret := (some (.object "RankDesk$Packed"))) (by decide) rfl ?_
  intro p e s m args below meth c s₁ B hml hv
  obtain ⟨rfl, hsz, hP, hK⟩ := hv
  have hx := B.exec
  have hb := B.bytes
  have hr := B.returns
  have hlocks := B.notSynchronized
  have hown : s.vm.findClass "RankDesk$Packed" = some m.cls := findClass_of_methodNamed B.named
  have ht : ∀ w ∈ lw_g, w.before ([.int (nI n), .int (nI r), .ref fa] : List Value).toArray s = true := fun w hw => atoms_spec (ws := wz_K_of) B.pre w (List.mem_cons_of_mem _ hw)
  subst hsz
  obtain ⟨A, hAe⟩ : ∃ A, A = va_A [] s.heap.size := ⟨_, rfl⟩
  rw [← hAe]
  have hA : ∀ q : Nat, s.heap.size ≤ q → A q := fun q h => by rw [hAe]; exact Or.inr h
  have hS : va_S A s.heap s.heap [] := va_S.rf
  have hPr0 : va_P D classes [(fa, .inl (cA, 8, .inl ff))] s.heap := hP
  have hPr := hPr0
  have hP : va_P D classes [] s.heap := fun k q h => by simp at h
  have hD : va_D A [] := ⟨fun i j p q h => by simp at h, fun k q h => by simp at h⟩
  obtain ⟨Q, hQ⟩ : ∃ Q, Q = MQ below (va_Qr (fun _ : Unit => True) (fun _ ra t => wd_T D cA A [(ra, .inr (1, [.int (nI n), .int (nI (pf_un n r))]))] t) A) ([.int (nI n), .int (nI r), .ref fa] : List Value).toArray s 1 2 A := ⟨_, rfl⟩
  rw [← hQ]
  have hl := lv_entry ([.int (nI n), .int (nI r), .ref fa]) (n := 10) (Nat.le_of_ble_eq_true rfl)
  rw [lg_entry_eq]
  generalize (lg_sl ([.int (nI n), .int (nI r), .ref fa]) ++ List.replicate (10 - (lg_sl ([.int (nI n), .int (nI r), .ref fa])).length) Slot.unset).toArray = ls at hl ⊢
  have hl : lv_has ls 10 [(0, .int (nI n)), (1, .int (nI r)), (2, .ref fa)] := hl
  show W p l e { frames := 2, cells := 1, slots := 2, locals := 34 } s m ([.int (nI n), .int (nI r), .ref fa] : List Value).toArray below meth c s.heap [] 0 0 Q (F0 m 0 ls [])
  have hc1 := pg_c1 hn0 hn hr0
  rw [pf_k1, Bool.and_eq_true, Bool.and_eq_true] at hc1
  have hon : ∀ k, k < n → pf_on n k (pf_ot n r k) < n := fun k hk => Nat.le_of_ble_eq_true (pf_upto_ok n hc1.1.1 k hk)
  have hp2 := zn_p2 hn
  have hfn := pf_fac_le n
  have lp : ∀ (t k : Nat) (ls : Array Slot), k + t = n → lv_has ls 10 [(0, .int (nI n)), (2, .ref fa), (3, .int (nI ((pf_ot n r k).1))), (4, .int (nI ((pf_ot n r k).2.1))), (5, .int (nI ((pf_ot n r k).2.2))), (6, .int (nI k))] → W p l e { frames := 2, cells := 1, slots := 2, locals := 34 } s m ([.int (nI n), .int (nI r), .ref fa] : List Value).toArray below meth c s.heap [] 0 0 Q (F0 m 15 ls []) := by
    intro t
    induction t with
    | zero =>
      intro k ls hk hl
      obtain rfl : k = n := by omega
      refine lv_iload hx hb d_K_of_15 (lv_at hl 5 rfl) ?_
      refine lv_iload_n hx hb d_K_of_17 rfl (lv_at hl 0 rfl) ?_
      refine rw_cge (tgt := 109) hx hb d_K_of_18 (by decide) (by omega) (by omega) (fun c1 => ?_) (fun c1 => ?_)
      · refine va_new (ci := 1) (fs := [.int (nI 0), .int (nI 0)]) (C := "RankDesk$Packed") (T := F_K) (N := 2) hx hb ht iw_K ft_K fo_K hown (ht _ tk_K_8) (ht _ ti_K) (ht _ tn_K) hK hP hD hS hA rfl (fun j hj => by rcases (show j = 0 ∨ j = 1 by omega) with rfl | rfl <;> rfl) (Nat.le_of_ble_eq_true rfl) (Nat.le_of_ble_eq_true rfl) d_K_of_109 (fun q H hP hD hS => ?_)
        have hP : va_P D classes [(q, .inr (1, [.int (nI 0), .int (nI 0)]))] H := hP
        have hD : va_D A [(q, .inr (1, [.int (nI 0), .int (nI 0)]))] := hD
        refine W.widen (k := 1) (n := 2) (by omega) (by omega) ?_
        have hPr := rd_keep hPr0 hS hAe
        refine lv_dup hx hb d_K_of_112 rfl ?_
        refine lv_iload_n hx hb d_K_of_113 rfl (lv_at hl 0 rfl) ?_
        refine lv_iload hx hb d_K_of_114 (lv_at hl 4 rfl) ?_
        refine rw_top (y := (nI (pf_un k r))) rfl ?_
        refine cl_v (D := D) (cA := cA) (wc := [(q, .inr (1, [.int (nI 0), .int (nI 0)]))]) (wr := []) (w1 := fun _ => [(q, .inr (1, [.int (nI k), .int (nI (pf_un k r))]))]) (rn_I (As := [.int (nI k), .int (nI (pf_un k r))]) (rest := [.ref q]) ⟨hx, hb, hml, hown, ht⟩ (c_K_init l D cA H.size q (.int (nI 0)) (.int (nI 0)) (nI k) (nI (pf_un k r))) mb_K_init tm_K_init rfl tl_K_16 rfl rfl ⟨Nat.le_of_ble_eq_true rfl, Nat.le_of_ble_eq_true rfl⟩ (pr_Z hP hK hD [0] rfl (by decide) rfl) rfl hl.1 rfl (Nat.le_of_ble_eq_true rfl) d_K_of_116 ⟨Nat.le_of_ble_eq_true rfl, Nat.le_of_ble_eq_true rfl⟩) hP hD hS hA [0] [] rfl rfl (by decide) (by decide) (fun u_ H locs hw hP hD hS => ?_)
        have hP : va_P D classes [(q, .inr (1, [.int (nI k), .int (nI (pf_un k r))]))] H := hP
        have hD : va_D A [(q, .inr (1, [.int (nI k), .int (nI (pf_un k r))]))] := hD
        have hPr := rd_keep hPr0 hS hAe
        rw [hQ]
        exact W.aret (v := .ref q) hx hb hr (Or.inl ⟨_, rfl⟩) (Or.inr ⟨_, rfl⟩) (fun t ht hW => ⟨⟨(), q, rfl, trivial, by rw [ht]; exact hP, va_K.moved hW.alike hK, hD⟩, hS.F ht⟩) hS.2.2 d_K_of_119
      · exact absurd c1 (by omega)
    | succ t ih =>
      intro k ls hk hl
      have hob := pf_ot_b (r := r) hn k (fun j hj => by have := hon j (by omega); omega)
      have hok := hon k (by omega)
      have hf1 := pf_fac_pos (n - 1 - k)
      have hf2 := pf_fac_le (n - 1 - k)
      refine lv_iload hx hb d_K_of_15 (lv_at hl 5 rfl) ?_
      refine lv_iload_n hx hb d_K_of_17 rfl (lv_at hl 0 rfl) ?_
      refine rw_cge (tgt := 109) hx hb d_K_of_18 (by decide) (by omega) (by omega) (fun c1 => ?_) (fun c1 => ?_)
      · exact absurd c1 (by omega)
      · refine lv_iload hx hb d_K_of_21 (lv_at hl 3 rfl) ?_
        refine lv_aload_n hx hb d_K_of_23 rfl (lv_at hl 1 rfl) ?_
        refine lv_iload_n hx hb d_K_of_24 rfl (lv_at hl 0 rfl) ?_
        refine lv_iconst (v := (nI 1)) hx hb d_K_of_25 (by decide) ?_
        refine rw_isub (r := n - 1) hx hb d_K_of_26 (by omega) ?_
        refine lv_iload hx hb d_K_of_27 (lv_at hl 5 rfl) ?_
        refine rw_isub (r := n - 1 - k) hx hb d_K_of_29 (by omega) ?_
        refine rw_iald (v := (nI (pf_fac (n - 1 - k)))) hx hb hK hPr 0 rfl (by omega) (by omega) (hff _ (by omega)) d_K_of_30 ?_
        refine rw_idiv (r := pf_od n k (pf_ot n r k)) hx hb d_K_of_31 (by omega) (by omega) (by omega) rfl ?_
        refine lv_istore (lv' := [(7, .int (nI (pf_od n k (pf_ot n r k)))), (0, .int (nI n)), (2, .ref fa), (3, .int (nI ((pf_ot n r k).1))), (4, .int (nI ((pf_ot n r k).2.1))), (5, .int (nI ((pf_ot n r k).2.2))), (6, .int (nI k))]) hx hb d_K_of_32 hl (by decide) rfl (fun ls hl => ?_)
        refine lv_iload hx hb d_K_of_34 (lv_at hl 4 rfl) ?_
        refine lv_aload_n hx hb d_K_of_36 rfl (lv_at hl 2 rfl) ?_
        refine lv_iload_n hx hb d_K_of_37 rfl (lv_at hl 1 rfl) ?_
        refine lv_iconst (v := (nI 1)) hx hb d_K_of_38 (by decide) ?_
        refine rw_isub (r := n - 1) hx hb d_K_of_39 (by omega) ?_
        refine lv_iload hx hb d_K_of_40 (lv_at hl 6 rfl) ?_
        refine rw_isub (r := n - 1 - k) hx hb d_K_of_42 (by omega) ?_
        refine rw_iald (v := (nI (pf_fac (n - 1 - k)))) hx hb hK hPr 0 rfl (by omega) (by omega) (hff _ (by omega)) d_K_of_43 ?_
        refine rw_irem (r := (pf_ot n r (k + 1)).2.1) hx hb d_K_of_44 (by omega) (by omega) (by omega) rfl ?_
        refine lv_istore (lv' := [(4, .int (nI ((pf_ot n r (k + 1)).2.1))), (7, .int (nI (pf_od n k (pf_ot n r k)))), (0, .int (nI n)), (2, .ref fa), (3, .int (nI ((pf_ot n r k).1))), (5, .int (nI ((pf_ot n r k).2.2))), (6, .int (nI k))]) hx hb d_K_of_45 hl (by decide) rfl (fun ls hl => ?_)
        refine lv_iload_n hx hb d_K_of_47 rfl (lv_at hl 4 rfl) ?_
        refine lv_istore (lv' := [(8, .int (nI ((pf_ot n r k).1))), (4, .int (nI ((pf_ot n r (k + 1)).2.1))), (7, .int (nI (pf_od n k (pf_ot n r k)))), (0, .int (nI n)), (2, .ref fa), (3, .int (nI ((pf_ot n r k).1))), (5, .int (nI ((pf_ot n r k).2.2))), (6, .int (nI k))]) hx hb d_K_of_48 hl (by decide) rfl (fun ls hl => ?_)
        refine lv_iconst (v := (nI 0)) hx hb d_K_of_50 (by decide) ?_
        refine lv_istore (lv' := [(9, .int (nI 0)), (8, .int (nI ((pf_ot n r k).1))), (4, .int (nI ((pf_ot n r (k + 1)).2.1))), (7, .int (nI (pf_od n k (pf_ot n r k)))), (0, .int (nI n)), (2, .ref fa), (3, .int (nI ((pf_ot n r k).1))), (5, .int (nI ((pf_ot n r k).2.2))), (6, .int (nI k))]) hx hb d_K_of_51 hl (by decide) rfl (fun ls hl => ?_)
        have lq : ∀ (u j b : Nat) (ls : Array Slot), j + u = pf_od n k (pf_ot n r k) → b < 128 → pf_clr u b = pf_clr (pf_od n k (pf_ot n r k)) (pf_ot n r k).1 → lv_has ls 10 [(0, .int (nI n)), (2, .ref fa), (3, .int (nI ((pf_ot n r k).1))), (4, .int (nI ((pf_ot n r (k + 1)).2.1))), (5, .int (nI ((pf_ot n r k).2.2))), (6, .int (nI k)), (7, .int (nI (pf_od n k (pf_ot n r k)))), (8, .int (nI b)), (9, .int (nI j))] → W p l e { frames := 2, cells := 1, slots := 2, locals := 34 } s m ([.int (nI n), .int (nI r), .ref fa] : List Value).toArray below meth c s.heap [] 0 0 Q (F0 m 53 ls []) := by
          intro u
          induction u with
          | zero =>
            intro j b ls h1 h2 h3 hl
            have h3 : b = pf_clr (pf_od n k (pf_ot n r k)) (pf_ot n r k).1 := h3
            have hod : pf_od n k (pf_ot n r k) ≤ r := Nat.le_trans (Nat.div_le_self _ _) hob.2.1
            have htz : pf_tz b < n := by rw [h3]; exact hok
            have hbp := pf_tz_pos (show pf_tz b < 7 by omega)
            have hps := zn_p2 (show pf_tz b ≤ 7 by omega)
            have hsh := zn_nsh (show pf_tz b < 8 by omega) (show k < 7 by omega)
            refine lv_iload hx hb d_K_of_53 (lv_at hl 8 rfl) ?_
            refine lv_iload hx hb d_K_of_55 (lv_at hl 6 rfl) ?_
            refine rw_cge (tgt := 75) hx hb d_K_of_57 (by decide) (by omega) (by omega) (fun c2 => ?_) (fun c2 => ?_)
            · refine lv_iload hx hb d_K_of_75 (lv_at hl 7 rfl) ?_
              refine rc_S (As := [.int (nI b)]) (rest := []) ⟨hx, hb, hml, hown, ht⟩ (c_I_ntz l b h2 hbp) mb_I_numberOfTrailingZeros tt_I_numberOfTrailingZeros tl_K_19 rfl rfl ⟨Nat.le_of_ble_eq_true rfl, Nat.le_of_ble_eq_true rfl⟩ ⟨fun _ _ _ _ q => q, fun _ _ _ => ⟨rfl, trivial⟩⟩ rfl hl.1 rfl (Nat.le_of_ble_eq_true rfl) d_K_of_77 ⟨Nat.le_of_ble_eq_true rfl, Nat.le_of_ble_eq_true rfl⟩ ?_
              refine lv_istore (lv' := [(9, .int (nI (pf_tz b))), (0, .int (nI n)), (2, .ref fa), (3, .int (nI ((pf_ot n r k).1))), (4, .int (nI ((pf_ot n r (k + 1)).2.1))), (5, .int (nI ((pf_ot n r k).2.2))), (6, .int (nI k)), (7, .int (nI (pf_od n k (pf_ot n r k)))), (8, .int (nI b))]) hx hb d_K_of_80 hl (by decide) rfl (fun ls hl => ?_)
              refine lv_iload_n hx hb d_K_of_82 rfl (lv_at hl 3 rfl) ?_
              refine lv_iconst (v := (nI 1)) hx hb d_K_of_83 (by decide) ?_
              refine lv_iload hx hb d_K_of_84 (lv_at hl 0 rfl) ?_
              refine rw_ishl (r := 2 ^ pf_tz b) hx hb d_K_of_86 (by omega) (Nat.one_mul _) (by omega) ?_
              refine lv_iconst (v := ((-1))) hx hb d_K_of_87 (by decide) ?_
              refine lv_ixor hx hb d_K_of_88 ?_
              refine lv_iand hx hb d_K_of_89 ?_
              refine rw_top (y := (nI ((pf_ot n r (k + 1)).1))) ((zn_clr hob.1 (show pf_tz b < 8 by omega)).trans (by rw [h3]; rfl)) ?_
              refine lv_istore_n (lv' := [(3, .int (nI ((pf_ot n r (k + 1)).1))), (9, .int (nI (pf_tz b))), (0, .int (nI n)), (2, .ref fa), (4, .int (nI ((pf_ot n r (k + 1)).2.1))), (5, .int (nI ((pf_ot n r k).2.2))), (6, .int (nI k)), (7, .int (nI (pf_od n k (pf_ot n r k)))), (8, .int (nI b))]) hx hb d_K_of_90 rfl hl (by decide) rfl (fun ls hl => ?_)
              refine lv_iload hx hb d_K_of_91 (lv_at hl 5 rfl) ?_
              refine lv_iload hx hb d_K_of_93 (lv_at hl 1 rfl) ?_
              refine lv_iconst (v := (nI 3)) hx hb d_K_of_95 (by decide) ?_
              refine lv_iload hx hb d_K_of_96 (lv_at hl 6 rfl) ?_
              refine rw_imul (r := 3 * k) hx hb d_K_of_98 rfl ?_
              refine rw_ishl (r := (pf_tz b) * 2 ^ (3 * k)) hx hb d_K_of_99 (by omega) rfl (by omega) ?_
              refine rw_ior (r := (pf_ot n r (k + 1)).2.2) hx hb d_K_of_100 (by rw [h3]; rfl) ?_
              refine lv_istore (lv' := [(5, .int (nI ((pf_ot n r (k + 1)).2.2))), (3, .int (nI ((pf_ot n r (k + 1)).1))), (9, .int (nI (pf_tz b))), (0, .int (nI n)), (2, .ref fa), (4, .int (nI ((pf_ot n r (k + 1)).2.1))), (6, .int (nI k)), (7, .int (nI (pf_od n k (pf_ot n r k)))), (8, .int (nI b))]) hx hb d_K_of_101 hl (by decide) rfl (fun ls hl => ?_)
              refine lv_iinc (v := (nI (k + 1))) (lv' := [(6, .int (nI (k + 1))), (5, .int (nI ((pf_ot n r (k + 1)).2.2))), (3, .int (nI ((pf_ot n r (k + 1)).1))), (9, .int (nI (pf_tz b))), (0, .int (nI n)), (2, .ref fa), (4, .int (nI ((pf_ot n r (k + 1)).2.1))), (7, .int (nI (pf_od n k (pf_ot n r k)))), (8, .int (nI b))]) hx hb d_K_of_103 hl (k := 6) rfl (nI_add k 1) (by decide) rfl (fun ls hl => ?_)
              refine lv_goto (tgt := 15) hx hb d_K_of_106 (by decide) ?_
              exact ih (k + 1) ls (by omega) (lv_sub hl [4, 5, 2, 6, 1, 0] rfl)
            · exact absurd c2 (by omega)
          | succ u ihu =>
            intro j b ls h1 h2 h3 hl
            have hod : pf_od n k (pf_ot n r k) ≤ r := Nat.le_trans (Nat.div_le_self _ _) hob.2.1
            refine lv_iload hx hb d_K_of_53 (lv_at hl 8 rfl) ?_
            refine lv_iload hx hb d_K_of_55 (lv_at hl 6 rfl) ?_
            refine rw_cge (tgt := 75) hx hb d_K_of_57 (by decide) (by omega) (by omega) (fun c2 => ?_) (fun c2 => ?_)
            · exact absurd c2 (by omega)
            · refine lv_iload hx hb d_K_of_60 (lv_at hl 7 rfl) ?_
              refine lv_iload hx hb d_K_of_62 (lv_at hl 7 rfl) ?_
              refine lv_iconst (v := (nI 1)) hx hb d_K_of_64 (by decide) ?_
              refine lv_isub hx hb d_K_of_65 ?_
              refine lv_iand hx hb d_K_of_66 ?_
              refine rw_top (y := (nI (b &&& (b - 1)))) (zn_low h2) ?_
              refine lv_istore (lv' := [(8, .int (nI (b &&& (b - 1)))), (0, .int (nI n)), (2, .ref fa), (3, .int (nI ((pf_ot n r k).1))), (4, .int (nI ((pf_ot n r (k + 1)).2.1))), (5, .int (nI ((pf_ot n r k).2.2))), (6, .int (nI k)), (7, .int (nI (pf_od n k (pf_ot n r k)))), (9, .int (nI j))]) hx hb d_K_of_67 hl (by decide) rfl (fun ls hl => ?_)
              refine lv_iinc (v := (nI (j + 1))) (lv' := [(9, .int (nI (j + 1))), (8, .int (nI (b &&& (b - 1)))), (0, .int (nI n)), (2, .ref fa), (3, .int (nI ((pf_ot n r k).1))), (4, .int (nI ((pf_ot n r (k + 1)).2.1))), (5, .int (nI ((pf_ot n r k).2.2))), (6, .int (nI k)), (7, .int (nI (pf_od n k (pf_ot n r k))))]) hx hb d_K_of_69 hl (k := 8) rfl (nI_add j 1) (by decide) rfl (fun ls hl => ?_)
              refine lv_goto (tgt := 53) hx hb d_K_of_72 (by decide) ?_
              exact ihu (j + 1) (b &&& (b - 1)) ls (by omega) (zn_andlt h2) h3 (lv_sub hl [2, 3, 4, 5, 6, 7, 8, 1, 0] rfl)
        exact lq (pf_od n k (pf_ot n r k)) 0 (pf_ot n r k).1 ls (by omega) hob.1 rfl (lv_sub hl [4, 5, 6, 2, 7, 8, 3, 1, 0] rfl)
  refine lv_iconst (v := (nI 1)) hx hb d_K_of_0 (by decide) ?_
  refine lv_iload_n hx hb d_K_of_1 rfl (lv_at hl 0 rfl) ?_
  refine rw_ishl (r := 2 ^ n) hx hb d_K_of_2 (by omega) (Nat.one_mul _) (by omega) ?_
  refine lv_iconst (v := (nI 1)) hx hb d_K_of_3 (by decide) ?_
  refine rw_isub (r := 2 ^ n - 1) hx hb d_K_of_4 (by omega) ?_
  refine lv_istore_n (lv' := [(3, .int (nI (2 ^ n - 1))), (0, .int (nI n)), (1, .int (nI r)), (2, .ref fa)]) hx hb d_K_of_5 rfl hl (by decide) rfl (fun ls hl => ?_)
  refine lv_iload_n hx hb d_K_of_6 rfl (lv_at hl 2 rfl) ?_
  refine lv_istore (lv' := [(4, .int (nI r)), (3, .int (nI (2 ^ n - 1))), (0, .int (nI n)), (1, .int (nI r)), (2, .ref fa)]) hx hb d_K_of_7 hl (by decide) rfl (fun ls hl => ?_)
  refine lv_iconst (v := (nI 0)) hx hb d_K_of_9 (by decide) ?_
  refine lv_istore (lv' := [(5, .int (nI 0)), (4, .int (nI r)), (3, .int (nI (2 ^ n - 1))), (0, .int (nI n)), (1, .int (nI r)), (2, .ref fa)]) hx hb d_K_of_10 hl (by decide) rfl (fun ls hl => ?_)
  refine lv_iconst (v := (nI 0)) hx hb d_K_of_12 (by decide) ?_
  refine lv_istore (lv' := [(6, .int (nI 0)), (5, .int (nI 0)), (4, .int (nI r)), (3, .int (nI (2 ^ n - 1))), (0, .int (nI n)), (1, .int (nI r)), (2, .ref fa)]) hx hb d_K_of_13 hl (by decide) rfl (fun ls hl => ?_)
  exact lp n 0 ls (by omega) (lv_sub hl [4, 6, 3, 2, 1, 0] rfl)
set_option maxHeartbeats 4000000 in
set_option maxRecDepth 100000 in
/-- RankDesk.order -/
theorem c_X_order (l : Launch) (D : va_G) (cA : ClassId) (sz h fa : Nat) (v1 : Value) (ff : Nat → Int32) (n r : Nat) (hn0 : 1 ≤ n) (hn : n ≤ 7) (hr0 : r < pf_fac n) (hff : ∀ k, k < 8 → ff k = nI (pf_fac k)) : Met l y_X_order wz_X_order { frames := 3, cells := 1, slots := 2, locals := 63 } (va_Pc [.ref h] (wd_M D cA sz [(h, .inr (0, [.ref fa, v1, .int (nI n), .int (nI r)])), (fa, .inl (cA, 8, .inl ff))])) (va_Qr (fun _ : Unit => True) (fun _ ra t => wd_T D cA (va_A [] sz) [(ra, .inr (1, [.int (nI n), .int (nI (pf_un n r))]))] t) (va_A [] sz)) 1 2 (va_A [] sz) := by
  refine Met.ofW (cc := b_X_order) (maxL := 1) (ret := (some (.object "RankDesk$Packed"))) (by decide) rfl ?_
  intro p e s m args below meth c s₁ B hml hv
  obtain ⟨rfl, hsz, hP, hK⟩ := hv
  have hx := B.exec
  have hb := B.bytes
  have hr := B.returns
  have hlocks := B.notSynchronized
  have hown : s.vm.findClass "RankDesk" = some m.cls := findClass_of_methodNamed B.named
  have ht : ∀ w ∈ lw_g, w.before ([.ref h] : List Value).toArray s = true := fun w hw => atoms_spec (ws := wz_X_order) B.pre w (List.mem_cons_of_mem _ hw)
  subst hsz
  obtain ⟨A, hAe⟩ : ∃ A, A = va_A [] s.heap.size := ⟨_, rfl⟩
  rw [← hAe]
  have hA : ∀ q : Nat, s.heap.size ≤ q → A q := fun q h => by rw [hAe]; exact Or.inr h
  have hS : va_S A s.heap s.heap [] := va_S.rf
  have hPr0 : va_P D classes [(h, .inr (0, [.ref fa, v1, .int (nI n), .int (nI r)])), (fa, .inl (cA, 8, .inl ff))] s.heap := hP
  have hPr := hPr0
  have hP : va_P D classes [] s.heap := fun k q h => by simp at h
  have hD : va_D A [] := ⟨fun i j p q h => by simp at h, fun k q h => by simp at h⟩
  obtain ⟨Q, hQ⟩ : ∃ Q, Q = MQ below (va_Qr (fun _ : Unit => True) (fun _ ra t => wd_T D cA A [(ra, .inr (1, [.int (nI n), .int (nI (pf_un n r))]))] t) A) ([.ref h] : List Value).toArray s 1 2 A := ⟨_, rfl⟩
  rw [← hQ]
  have hl := lv_entry ([.ref h]) (n := 1) (Nat.le_of_ble_eq_true rfl)
  rw [lg_entry_eq]
  generalize (lg_sl ([.ref h]) ++ List.replicate (1 - (lg_sl ([.ref h])).length) Slot.unset).toArray = ls at hl ⊢
  have hl : lv_has ls 1 [(0, .ref h)] := hl
  show W p l e { frames := 3, cells := 1, slots := 2, locals := 63 } s m ([.ref h] : List Value).toArray below meth c s.heap [] 0 0 Q (F0 m 0 ls [])
  refine lv_aload_n hx hb d_X_order_0 rfl (lv_at hl 0 rfl) ?_
  refine gf_X_16 hx hb ht hown hK hPr 0 rfl d_X_order_1 ?_
  refine lv_aload_n hx hb d_X_order_4 rfl (lv_at hl 0 rfl) ?_
  refine gf_X_20 hx hb ht hown hK hPr 0 rfl d_X_order_5 ?_
  refine lv_aload_n hx hb d_X_order_8 rfl (lv_at hl 0 rfl) ?_
  refine gf_X_7 hx hb ht hown hK hPr 0 rfl d_X_order_9 ?_
  refine cl_r (D := D) (cA := cA) (wc := []) (wr := []) (w1 := fun _ q => [(q, .inr (1, [.int (nI n), .int (nI (pf_un n r))]))]) (rn_S (As := [.int (nI n), .int (nI r), .ref fa]) (rest := []) ⟨hx, hb, hml, hown, ht⟩ (c_K_of l D cA s.heap.size fa ff n r hn0 hn hr0 hff) mb_K_of tt_K_of tl_X_23 rfl rfl ⟨Nat.le_of_ble_eq_true rfl, Nat.le_of_ble_eq_true rfl⟩ (pr_M hPr hK [1] rfl) rfl hl.1 rfl (Nat.le_of_ble_eq_true rfl) d_X_order_12 ⟨Nat.le_of_ble_eq_true rfl, Nat.le_of_ble_eq_true rfl⟩) hP hD hS hA [] [] rfl rfl (by decide) (by decide) (fun u_ q H locs hw hP hD hS => ?_)
  have hP : va_P D classes [(q, .inr (1, [.int (nI n), .int (nI (pf_un n r))]))] H := hP
  have hD : va_D A [(q, .inr (1, [.int (nI n), .int (nI (pf_un n r))]))] := hD
  have hPr := rd_keep hPr0 hS hAe
  refine W.widen (k := 1) (n := 2) (by omega) (by omega) ?_
  rw [hQ]
  exact W.aret (v := .ref q) hx hb hr (Or.inl ⟨_, rfl⟩) (Or.inr ⟨_, rfl⟩) (fun t ht hW => ⟨⟨(), q, rfl, trivial, by rw [ht]; exact hP, va_K.moved hW.alike hK, hD⟩, hS.F ht⟩) hS.2.2 d_X_order_15
end
section
/-! what the checks say, one by one -/
theorem pu_and {a b : Bool} (h : (a && b) = true) : a = true ∧ b = true := (Bool.and_eq_true a b).mp h
theorem pu_lt {n r : Nat} (hn0 : 1 ≤ n) (hn : n ≤ 7) (hr : r < pf_fac n) : pf_un n r < 2 ^ 21 := by
  have h := pg_c1 hn0 hn hr
  have h2 : pf_un n r < 2 ^ (3 * n) := Nat.le_of_ble_eq_true (pu_and (pu_and h).1).2
  exact Nat.lt_of_lt_of_le h2 (Nat.pow_le_pow_right (by decide) (by omega))
theorem pu_lt3 {n r : Nat} (hn0 : 1 ≤ n) (hn : n ≤ 7) (hr : r < pf_fac n) : pf_un n r < 2 ^ (3 * n) := Nat.le_of_ble_eq_true (pu_and (pu_and (pg_c1 hn0 hn hr)).1).2
theorem pu_rk {n r : Nat} (hn0 : 1 ≤ n) (hn : n ≤ 7) (hr : r < pf_fac n) : pf_rk n (pf_un n r) = r := Nat.eq_of_beq_eq_true (pu_and (pg_c1 hn0 hn hr)).2
theorem pu_dgn {n r k : Nat} (hn0 : 1 ≤ n) (hn : n ≤ 7) (hr : r < pf_fac n) (hk : k < n) : pf_dg (pf_un n r) k < n :=
  Nat.le_of_ble_eq_true (pu_and (pf_upto_ok n (pu_and (pg_c2 hn0 hn hr)).1 k hk)).1
theorem pu_inj {n r j k : Nat} (hn0 : 1 ≤ n) (hn : n ≤ 7) (hr : r < pf_fac n) (hj : j < n) (hk : k < n) (e : pf_dg (pf_un n r) j = pf_dg (pf_un n r) k) : j = k := by
  have key : ∀ a b, a < b → b < n → pf_dg (pf_un n r) a ≠ pf_dg (pf_un n r) b := by
    intro a b hab hb q
    have h := pf_upto_ok b (pu_and (pf_upto_ok n (pu_and (pg_c2 hn0 hn hr)).1 b hb)).2 a hab
    rw [q] at h
    simp at h
  rcases Nat.lt_trichotomy j k with q | q | q
  · exact absurd e (key j k q hk)
  · exact q
  · exact absurd e.symm (key k j q hj)
theorem pu_inv {n r : Nat} (hn0 : 1 ≤ n) (hn : n ≤ 7) (hr : r < pf_fac n) : pf_iv n 0 r = pf_io (pf_dg (pf_un n r)) n := Nat.eq_of_beq_eq_true (pu_and (pg_c2 hn0 hn hr)).2
theorem pu_rg {n r k : Nat} (hn0 : 1 ≤ n) (hn : n ≤ 7) (hr : r < pf_fac n) (hk : k < n) : (pf_rg (pf_un n r) 8 0 k).2 = true ∧ (pf_rg (pf_un n r) 8 0 k).1 < 128 ∧ (pf_ew (pf_dg (pf_un n r)) k 8 (pf_dg (pf_un n r) k) true).2 = true := by
  have h := pf_upto_ok n (pu_and (pg_c6 hn0 hn hr)).1 k hk
  exact ⟨(pu_and (pu_and h).1).1, Nat.le_of_ble_eq_true (pu_and (pu_and h).1).2, (pu_and h).2⟩
theorem pu_ex {n r : Nat} (hn0 : 1 ≤ n) (hn : n ≤ 7) (hr : r < pf_fac n) : pf_eo (pf_dg (pf_un n r)) n = n - (pf_et (pf_un n r) n).2 := Nat.eq_of_beq_eq_true (pu_and (pg_c6 hn0 hn hr)).2
theorem pf_et_b {w : Nat} : ∀ k, (∀ j, j < k → (pf_rg w 8 0 j).1 < 128) → (pf_et w k).1 < 128 ∧ (pf_et w k).2 ≤ k
  | 0, _ => ⟨by show 0 < 128; omega, by show 0 ≤ 0; omega⟩
  | k + 1, h => by
    obtain ⟨h1, h2⟩ := pf_et_b (w := w) k (fun j hj => h j (by omega))
    rw [pf_et]
    split
    · exact ⟨h1, by omega⟩
    · exact ⟨Nat.or_lt_two_pow (n := 7) h1 (h k (by omega)), by show _ + 1 ≤ _; omega⟩
theorem pu_tk {n r k : Nat} (hn0 : 1 ≤ n) (hn : n ≤ 7) (hr : r < pf_fac n) (hk : k < n) : (0 < (pf_tt (pf_un n r) k).2 ∧ (pf_tt (pf_un n r) k).2 < 1000 ∧ (pf_tt (pf_un n r) k).1 < 128) ∧ ((pf_tt (pf_un n r) k).1 / 2 ^ k % 2 = 1 ∨ (pf_pc (pf_tt (pf_un n r) k).1 ≤ pf_pc ((pf_tt (pf_un n r) k).1 ||| (pf_rg (pf_un n r) 8 0 k).1) ∧ 0 < pf_ln (pf_tt (pf_un n r) k).1 ((pf_tt (pf_un n r) k).1 ||| (pf_rg (pf_un n r) 8 0 k).1) ∧ pf_ln (pf_tt (pf_un n r) k).1 ((pf_tt (pf_un n r) k).1 ||| (pf_rg (pf_un n r) 8 0 k).1) < 8)) := by
  have h := pf_upto_ok n (pu_and (pu_and (pg_c7 hn0 hn hr)).1).1 k hk
  obtain ⟨h1, h2⟩ := pu_and h
  refine ⟨⟨Nat.le_of_ble_eq_true (pu_and (pu_and h1).1).1, Nat.le_of_ble_eq_true (pu_and (pu_and h1).1).2, Nat.le_of_ble_eq_true (pu_and h1).2⟩, ?_⟩
  rcases (Bool.or_eq_true _ _).mp h2 with q | q
  · exact Or.inl (Nat.eq_of_beq_eq_true q)
  · exact Or.inr ⟨Nat.le_of_ble_eq_true (pu_and (pu_and q).1).1, Nat.le_of_ble_eq_true (pu_and (pu_and q).1).2, Nat.le_of_ble_eq_true (pu_and q).2⟩
theorem pu_tw {n r : Nat} (hn0 : 1 ≤ n) (hn : n ≤ 7) (hr : r < pf_fac n) : (pf_tw n (pf_dg (pf_un n r)) 13 (pf_dg (pf_un n r)) 1).2 = true ∧ (pf_tw n (pf_dg (pf_un n r)) 13 (pf_dg (pf_un n r)) 1).1 = (pf_tt (pf_un n r) n).2 := by
  have h := pg_c7 hn0 hn hr
  exact ⟨(pu_and (pu_and h).1).2, Nat.eq_of_beq_eq_true (pu_and h).2⟩
theorem pu_lo {n r : Nat} (hn0 : 1 ≤ n) (hn : n ≤ 7) (hr : r < pf_fac n) : pf_tr (pf_dg (pf_un n r)) n n 0 0 = (pf_lt (pf_un n r) n).2 := Nat.eq_of_beq_eq_true (pg_c8 hn0 hn hr)
/-- the next rank, and whether there is one -/
def pf_fw (n r : Nat) : Nat := if r + 1 < pf_fac n then r + 1 else 0
def pf_fb (n r : Nat) : Nat := if r + 1 < pf_fac n then 1 else 0
theorem pf_fw_lt {n r : Nat} : pf_fw n r < pf_fac n := by
  unfold pf_fw
  split
  · assumption
  · exact pf_fac_pos n
theorem pu_nx {n r : Nat} (hn0 : 1 ≤ n) (hn : n ≤ 7) (hr : r < pf_fac n) : (pf_nx n (pf_dg (pf_un n r))).2 = pf_fb n r ∧ ∀ k, k < n → (pf_nx n (pf_dg (pf_un n r))).1 k = pf_dg (pf_un n (pf_fw n r)) k := by
  have h := pg_c4 hn0 hn hr
  rw [pf_k4] at h
  by_cases q : r + 1 < pf_fac n
  · rw [if_pos (show Nat.blt (r + 1) (pf_fac n) = true from Nat.ble_eq_true_of_le q)] at h
    rw [pf_fb, pf_fw, if_pos q, if_pos q]
    exact ⟨Nat.eq_of_beq_eq_true (pu_and h).1, fun k hk => Nat.eq_of_beq_eq_true (pf_upto_ok n (pu_and h).2 k hk)⟩
  · rw [if_neg (show ¬ Nat.blt (r + 1) (pf_fac n) = true from fun z => q (Nat.le_of_ble_eq_true z))] at h
    rw [pf_fb, pf_fw, if_neg q, if_neg q]
    exact ⟨Nat.eq_of_beq_eq_true (pu_and h).1, fun k hk => Nat.eq_of_beq_eq_true (pf_upto_ok n (pu_and h).2 k hk)⟩
/-- the rank behind an exchange of two places -/
def pf_sr (n r x y : Nat) : Nat := if x = y then r else pf_rk n (pf_xc (pf_un n r) x y)
def pf_sb (x y : Nat) : Nat := if x = y then 0 else 1
/-- RankDesk.inversions stays small -/
theorem pf_iv_rest {j rest : Nat} : rest % pf_fac j < 5040 := Nat.lt_of_lt_of_le (Nat.mod_lt _ (pf_fac_pos j)) (pf_fac_le j)
/-- the binary search stays within -/
theorem pf_bs_in {E : Nat → Nat} {x : Nat} : ∀ f lo hi, lo ≤ hi → lo ≤ pf_bs E x f lo hi ∧ pf_bs E x f lo hi ≤ hi
  | 0, lo, hi, h => ⟨Nat.le_refl _, h⟩
  | f + 1, lo, hi, h => by
    rw [pf_bs]
    split
    · split
      · have := pf_bs_in (E := E) (x := x) f ((lo + hi) / 2 + 1) hi (by omega); omega
      · have := pf_bs_in (E := E) (x := x) f lo ((lo + hi) / 2) (by omega); omega
    · omega
theorem pf_lt_b {w : Nat} : ∀ k, (pf_lt w k).2 ≤ k
  | 0 => Nat.le_refl _
  | k + 1 => by
    have h := pf_lt_b (w := w) k
    rw [pf_lt]
    dsimp only
    split
    · exact Nat.succ_le_succ h
    · exact Nat.le_succ_of_le h
end
section
/-! RankDesk: the first half -/
set_option maxHeartbeats 4000000 in
set_option maxRecDepth 100000 in
/-- RankDesk() -/
theorem c_X_init (l : Launch) (D : va_G) (cA : ClassId) (sz h : Nat) (v2 v3 : Value) : Met l y_X_init wz_X_init { frames := 1, cells := 2, slots := 15, locals := 12 } (va_Pc [.ref h] (wd_Z D cA sz [(h, .inr (0, [.null, .null, v2, v3]))])) (va_Qv (fun (u : Nat × Nat × (Nat → Int32)) => ∀ k, k < 8 → u.2.2 k = nI (pf_fac k)) (fun u t => wd_T D cA (va_A [(h, .inr (0, [.null, .null, v2, v3]))] sz) [(h, .inr (0, [.ref u.1, .ref u.2.1, .int (nI 4), .int (nI 0)])), (u.1, .inl (cA, 8, .inl u.2.2)), (u.2.1, .inl (cA, 7, .inl (fun _ => 0)))] t) (va_A [(h, .inr (0, [.null, .null, v2, v3]))] sz)) 2 15 (va_A [(h, .inr (0, [.null, .null, v2, v3]))] sz) := by
  refine Met.ofW (cc := b_X_init) (maxL := 1) (ret := none) (by decide) rfl ?_
  intro p e s m args below meth c s₁ B hml hv
  obtain ⟨rfl, hsz, hP, hK, hD0⟩ := hv
  have hx := B.exec
  have hb := B.bytes
  have hr := B.returns
  have hlocks := B.notSynchronized
  have hown : s.vm.findClass "RankDesk" = some m.cls := findClass_of_methodNamed B.named
  have ht : ∀ w ∈ lw_g, w.before ([.ref h] : List Value).toArray s = true := fun w hw => atoms_spec (ws := wz_X_init) B.pre w (List.mem_cons_of_mem _ hw)
  have hin : meth.name = "<init>" := (name_of_methodNamed B.named B.method).1
  subst hsz
  have hD := hD0.self (sz := s.heap.size)
  obtain ⟨A, hAe⟩ : ∃ A, A = va_A [(h, .inr (0, [.null, .null, v2, v3]))] s.heap.size := ⟨_, rfl⟩
  rw [← hAe] at hD ⊢
  have hA : ∀ q : Nat, s.heap.size ≤ q → A q := fun q h => by rw [hAe]; exact Or.inr h
  have hS : va_S A s.heap s.heap [] := va_S.rf
  have hP : va_P D classes [(h, .inr (0, [.null, .null, v2, v3]))] s.heap := hP
  obtain ⟨Q, hQ⟩ : ∃ Q, Q = MQ below (va_Qv (fun (u : Nat × Nat × (Nat → Int32)) => ∀ k, k < 8 → u.2.2 k = nI (pf_fac k)) (fun u t => wd_T D cA A [(h, .inr (0, [.ref u.1, .ref u.2.1, .int (nI 4), .int (nI 0)])), (u.1, .inl (cA, 8, .inl u.2.2)), (u.2.1, .inl (cA, 7, .inl (fun _ => 0)))] t) A) ([.ref h] : List Value).toArray s 2 15 A := ⟨_, rfl⟩
  rw [← hQ]
  have hl := lv_entry ([.ref h]) (n := 1) (Nat.le_of_ble_eq_true rfl)
  rw [lg_entry_eq]
  generalize (lg_sl ([.ref h]) ++ List.replicate (1 - (lg_sl ([.ref h])).length) Slot.unset).toArray = ls at hl ⊢
  have hl : lv_has ls 1 [(0, .ref h)] := hl
  show W p l e { frames := 1, cells := 2, slots := 15, locals := 12 } s m ([.ref h] : List Value).toArray below meth c s.heap [] 0 0 Q (F0 m 0 ls [])
  refine lv_aload_n hx hb d_X_init_0 rfl (lv_at hl 0 rfl) ?_
  refine W.objInit hx hb hown (ht _ tl_X_1) (ht _ tm_O_init) (ht _ to_code) rfl (by rw [hml]; exact hl.1) rfl d_X_init_1 (Nat.le_of_ble_eq_true rfl) (Nat.le_of_ble_eq_true rfl) ?_
  refine W.eq (g2 := F0 m 4 ls []) rfl ?_
  refine lv_aload_n hx hb d_X_init_4 rfl (lv_at hl 0 rfl) ?_
  refine lv_bipush (v := (nI 8)) hx hb d_X_init_5 (by decide) ?_
  refine rw_newa hx hb ht hK hP hD hS hA (by omega) (Nat.le_of_ble_eq_true rfl) (Nat.le_of_ble_eq_true rfl) d_X_init_7 (fun fa H hP hD hS => ?_)
  have hP : va_P D classes [(h, .inr (0, [.null, .null, v2, v3])), (fa, .inl (cA, 8, .inl (fun _ => 0)))] H := hP
  have hD : va_D A [(h, .inr (0, [.null, .null, v2, v3])), (fa, .inl (cA, 8, .inl (fun _ => 0)))] := hD
  refine W.widen (k := 1) (n := 8) (by omega) (by omega) ?_
  refine lv_dup hx hb d_X_init_9 rfl ?_
  refine lv_iconst (v := (nI 0)) hx hb d_X_init_10 (by decide) ?_
  refine lv_iconst (v := (nI 1)) hx hb d_X_init_11 (by decide) ?_
  refine rw_iast (k := 0) hx hb hK hP hD hS 1 rfl (by omega) (by omega) d_X_init_12 (fun H locs hP hD hS => ?_)
  have hP : va_P D classes [(h, .inr (0, [.null, .null, v2, v3])), (fa, .inl (cA, 8, .inl (upd (fun _ => 0) 0 ((nI 1)))))] H := hP
  have hD : va_D A [(h, .inr (0, [.null, .null, v2, v3])), (fa, .inl (cA, 8, .inl (upd (fun _ => 0) 0 ((nI 1)))))] := hD
  refine lv_dup hx hb d_X_init_13 rfl ?_
  refine lv_iconst (v := (nI 1)) hx hb d_X_init_14 (by decide) ?_
  refine lv_iconst (v := (nI 1)) hx hb d_X_init_15 (by decide) ?_
  refine rw_iast (k := 1) hx hb hK hP hD hS 1 rfl (by omega) (by omega) d_X_init_16 (fun H locs hP hD hS => ?_)
  have hP : va_P D classes [(h, .inr (0, [.null, .null, v2, v3])), (fa, .inl (cA, 8, .inl (upd (upd (fun _ => 0) 0 ((nI 1))) 1 ((nI 1)))))] H := hP
  have hD : va_D A [(h, .inr (0, [.null, .null, v2, v3])), (fa, .inl (cA, 8, .inl (upd (upd (fun _ => 0) 0 ((nI 1))) 1 ((nI 1)))))] := hD
  refine lv_dup hx hb d_X_init_17 rfl ?_
  refine lv_iconst (v := (nI 2)) hx hb d_X_init_18 (by decide) ?_
  refine lv_iconst (v := (nI 2)) hx hb d_X_init_19 (by decide) ?_
  refine rw_iast (k := 2) hx hb hK hP hD hS 1 rfl (by omega) (by omega) d_X_init_20 (fun H locs hP hD hS => ?_)
  have hP : va_P D classes [(h, .inr (0, [.null, .null, v2, v3])), (fa, .inl (cA, 8, .inl (upd (upd (upd (fun _ => 0) 0 ((nI 1))) 1 ((nI 1))) 2 ((nI 2)))))] H := hP
  have hD : va_D A [(h, .inr (0, [.null, .null, v2, v3])), (fa, .inl (cA, 8, .inl (upd (upd (upd (fun _ => 0) 0 ((nI 1))) 1 ((nI 1))) 2 ((nI 2)))))] := hD
  refine lv_dup hx hb d_X_init_21 rfl ?_
  refine lv_iconst (v := (nI 3)) hx hb d_X_init_22 (by decide) ?_
  refine lv_bipush (v := (nI 6)) hx hb d_X_init_23 (by decide) ?_
  refine rw_iast (k := 3) hx hb hK hP hD hS 1 rfl (by omega) (by omega) d_X_init_25 (fun H locs hP hD hS => ?_)
  have hP : va_P D classes [(h, .inr (0, [.null, .null, v2, v3])), (fa, .inl (cA, 8, .inl (upd (upd (upd (upd (fun _ => 0) 0 ((nI 1))) 1 ((nI 1))) 2 ((nI 2))) 3 ((nI 6)))))] H := hP
  have hD : va_D A [(h, .inr (0, [.null, .null, v2, v3])), (fa, .inl (cA, 8, .inl (upd (upd (upd (upd (fun _ => 0) 0 ((nI 1))) 1 ((nI 1))) 2 ((nI 2))) 3 ((nI 6)))))] := hD
  refine lv_dup hx hb d_X_init_26 rfl ?_
  refine lv_iconst (v := (nI 4)) hx hb d_X_init_27 (by decide) ?_
  refine lv_bipush (v := (nI 24)) hx hb d_X_init_28 (by decide) ?_
  refine rw_iast (k := 4) hx hb hK hP hD hS 1 rfl (by omega) (by omega) d_X_init_30 (fun H locs hP hD hS => ?_)
  have hP : va_P D classes [(h, .inr (0, [.null, .null, v2, v3])), (fa, .inl (cA, 8, .inl (upd (upd (upd (upd (upd (fun _ => 0) 0 ((nI 1))) 1 ((nI 1))) 2 ((nI 2))) 3 ((nI 6))) 4 ((nI 24)))))] H := hP
  have hD : va_D A [(h, .inr (0, [.null, .null, v2, v3])), (fa, .inl (cA, 8, .inl (upd (upd (upd (upd (upd (fun _ => 0) 0 ((nI 1))) 1 ((nI 1))) 2 ((nI 2))) 3 ((nI 6))) 4 ((nI 24)))))] := hD
  refine lv_dup hx hb d_X_init_31 rfl ?_
  refine lv_iconst (v := (nI 5)) hx hb d_X_init_32 (by decide) ?_
  refine lv_bipush (v := (nI 120)) hx hb d_X_init_33 (by decide) ?_
  refine rw_iast (k := 5) hx hb hK hP hD hS 1 rfl (by omega) (by omega) d_X_init_35 (fun H locs hP hD hS => ?_)
  have hP : va_P D classes [(h, .inr (0, [.null, .null, v2, v3])), (fa, .inl (cA, 8, .inl (upd (upd (upd (upd (upd (upd (fun _ => 0) 0 ((nI 1))) 1 ((nI 1))) 2 ((nI 2))) 3 ((nI 6))) 4 ((nI 24))) 5 ((nI 120)))))] H := hP
  have hD : va_D A [(h, .inr (0, [.null, .null, v2, v3])), (fa, .inl (cA, 8, .inl (upd (upd (upd (upd (upd (upd (fun _ => 0) 0 ((nI 1))) 1 ((nI 1))) 2 ((nI 2))) 3 ((nI 6))) 4 ((nI 24))) 5 ((nI 120)))))] := hD
  refine lv_dup hx hb d_X_init_36 rfl ?_
  refine lv_bipush (v := (nI 6)) hx hb d_X_init_37 (by decide) ?_
  refine lv_sipush (v := (nI 720)) hx hb d_X_init_39 (by decide) ?_
  refine rw_iast (k := 6) hx hb hK hP hD hS 1 rfl (by omega) (by omega) d_X_init_42 (fun H locs hP hD hS => ?_)
  have hP : va_P D classes [(h, .inr (0, [.null, .null, v2, v3])), (fa, .inl (cA, 8, .inl (upd (upd (upd (upd (upd (upd (upd (fun _ => 0) 0 ((nI 1))) 1 ((nI 1))) 2 ((nI 2))) 3 ((nI 6))) 4 ((nI 24))) 5 ((nI 120))) 6 ((nI 720)))))] H := hP
  have hD : va_D A [(h, .inr (0, [.null, .null, v2, v3])), (fa, .inl (cA, 8, .inl (upd (upd (upd (upd (upd (upd (upd (fun _ => 0) 0 ((nI 1))) 1 ((nI 1))) 2 ((nI 2))) 3 ((nI 6))) 4 ((nI 24))) 5 ((nI 120))) 6 ((nI 720)))))] := hD
  refine lv_dup hx hb d_X_init_43 rfl ?_
  refine lv_bipush (v := (nI 7)) hx hb d_X_init_44 (by decide) ?_
  refine lv_sipush (v := (nI 5040)) hx hb d_X_init_46 (by decide) ?_
  refine rw_iast (k := 7) hx hb hK hP hD hS 1 rfl (by omega) (by omega) d_X_init_49 (fun H locs hP hD hS => ?_)
  have hP : va_P D classes [(h, .inr (0, [.null, .null, v2, v3])), (fa, .inl (cA, 8, .inl (upd (upd (upd (upd (upd (upd (upd (upd (fun _ => 0) 0 ((nI 1))) 1 ((nI 1))) 2 ((nI 2))) 3 ((nI 6))) 4 ((nI 24))) 5 ((nI 120))) 6 ((nI 720))) 7 ((nI 5040)))))] H := hP
  have hD : va_D A [(h, .inr (0, [.null, .null, v2, v3])), (fa, .inl (cA, 8, .inl (upd (upd (upd (upd (upd (upd (upd (upd (fun _ => 0) 0 ((nI 1))) 1 ((nI 1))) 2 ((nI 2))) 3 ((nI 6))) 4 ((nI 24))) 5 ((nI 120))) 6 ((nI 720))) 7 ((nI 5040)))))] := hD
  refine pw_X_7 hx hb ht hown hK hP hD hS hin 0 rfl d_X_init_50 (fun H locs hP hD hS => ?_)
  have hP : va_P D classes [(h, .inr (0, [.ref fa, .null, v2, v3])), (fa, .inl (cA, 8, .inl (upd (upd (upd (upd (upd (upd (upd (upd (fun _ => 0) 0 ((nI 1))) 1 ((nI 1))) 2 ((nI 2))) 3 ((nI 6))) 4 ((nI 24))) 5 ((nI 120))) 6 ((nI 720))) 7 ((nI 5040)))))] H := hP
  have hD : va_D A [(h, .inr (0, [.ref fa, .null, v2, v3])), (fa, .inl (cA, 8, .inl (upd (upd (upd (upd (upd (upd (upd (upd (fun _ => 0) 0 ((nI 1))) 1 ((nI 1))) 2 ((nI 2))) 3 ((nI 6))) 4 ((nI 24))) 5 ((nI 120))) 6 ((nI 720))) 7 ((nI 5040)))))] := hD
  refine lv_aload_n hx hb d_X_init_53 rfl (lv_at hl 0 rfl) ?_
  refine lv_bipush (v := (nI 7)) hx hb d_X_init_54 (by decide) ?_
  refine rw_newa hx hb ht hK hP hD hS hA (by omega) (Nat.le_of_ble_eq_true rfl) (Nat.le_of_ble_eq_true rfl) d_X_init_56 (fun ea H hP hD hS => ?_)
  have hP : va_P D classes [(h, .inr (0, [.ref fa, .null, v2, v3])), (fa, .inl (cA, 8, .inl (upd (upd (upd (upd (upd (upd (upd (upd (fun _ => 0) 0 ((nI 1))) 1 ((nI 1))) 2 ((nI 2))) 3 ((nI 6))) 4 ((nI 24))) 5 ((nI 120))) 6 ((nI 720))) 7 ((nI 5040))))), (ea, .inl (cA, 7, .inl (fun _ => 0)))] H := hP
  have hD : va_D A [(h, .inr (0, [.ref fa, .null, v2, v3])), (fa, .inl (cA, 8, .inl (upd (upd (upd (upd (upd (upd (upd (upd (fun _ => 0) 0 ((nI 1))) 1 ((nI 1))) 2 ((nI 2))) 3 ((nI 6))) 4 ((nI 24))) 5 ((nI 120))) 6 ((nI 720))) 7 ((nI 5040))))), (ea, .inl (cA, 7, .inl (fun _ => 0)))] := hD
  refine W.widen (k := 2) (n := 15) (by omega) (by omega) ?_
  refine pw_X_13 hx hb ht hown hK hP hD hS hin 0 rfl d_X_init_58 (fun H locs hP hD hS => ?_)
  have hP : va_P D classes [(h, .inr (0, [.ref fa, .ref ea, v2, v3])), (fa, .inl (cA, 8, .inl (upd (upd (upd (upd (upd (upd (upd (upd (fun _ => 0) 0 ((nI 1))) 1 ((nI 1))) 2 ((nI 2))) 3 ((nI 6))) 4 ((nI 24))) 5 ((nI 120))) 6 ((nI 720))) 7 ((nI 5040))))), (ea, .inl (cA, 7, .inl (fun _ => 0)))] H := hP
  have hD : va_D A [(h, .inr (0, [.ref fa, .ref ea, v2, v3])), (fa, .inl (cA, 8, .inl (upd (upd (upd (upd (upd (upd (upd (upd (fun _ => 0) 0 ((nI 1))) 1 ((nI 1))) 2 ((nI 2))) 3 ((nI 6))) 4 ((nI 24))) 5 ((nI 120))) 6 ((nI 720))) 7 ((nI 5040))))), (ea, .inl (cA, 7, .inl (fun _ => 0)))] := hD
  refine lv_aload_n hx hb d_X_init_61 rfl (lv_at hl 0 rfl) ?_
  refine lv_iconst (v := (nI 4)) hx hb d_X_init_62 (by decide) ?_
  refine pw_X_16 hx hb ht hown hK hP hD hS 0 rfl d_X_init_63 (fun H locs hP hD hS => ?_)
  have hP : va_P D classes [(h, .inr (0, [.ref fa, .ref ea, .int (nI 4), v3])), (fa, .inl (cA, 8, .inl (upd (upd (upd (upd (upd (upd (upd (upd (fun _ => 0) 0 ((nI 1))) 1 ((nI 1))) 2 ((nI 2))) 3 ((nI 6))) 4 ((nI 24))) 5 ((nI 120))) 6 ((nI 720))) 7 ((nI 5040))))), (ea, .inl (cA, 7, .inl (fun _ => 0)))] H := hP
  have hD : va_D A [(h, .inr (0, [.ref fa, .ref ea, .int (nI 4), v3])), (fa, .inl (cA, 8, .inl (upd (upd (upd (upd (upd (upd (upd (upd (fun _ => 0) 0 ((nI 1))) 1 ((nI 1))) 2 ((nI 2))) 3 ((nI 6))) 4 ((nI 24))) 5 ((nI 120))) 6 ((nI 720))) 7 ((nI 5040))))), (ea, .inl (cA, 7, .inl (fun _ => 0)))] := hD
  refine lv_aload_n hx hb d_X_init_66 rfl (lv_at hl 0 rfl) ?_
  refine lv_iconst (v := (nI 0)) hx hb d_X_init_67 (by decide) ?_
  refine pw_X_20 hx hb ht hown hK hP hD hS 0 rfl d_X_init_68 (fun H locs hP hD hS => ?_)
  have hP : va_P D classes [(h, .inr (0, [.ref fa, .ref ea, .int (nI 4), .int (nI 0)])), (fa, .inl (cA, 8, .inl (upd (upd (upd (upd (upd (upd (upd (upd (fun _ => 0) 0 ((nI 1))) 1 ((nI 1))) 2 ((nI 2))) 3 ((nI 6))) 4 ((nI 24))) 5 ((nI 120))) 6 ((nI 720))) 7 ((nI 5040))))), (ea, .inl (cA, 7, .inl (fun _ => 0)))] H := hP
  have hD : va_D A [(h, .inr (0, [.ref fa, .ref ea, .int (nI 4), .int (nI 0)])), (fa, .inl (cA, 8, .inl (upd (upd (upd (upd (upd (upd (upd (upd (fun _ => 0) 0 ((nI 1))) 1 ((nI 1))) 2 ((nI 2))) 3 ((nI 6))) 4 ((nI 24))) 5 ((nI 120))) 6 ((nI 720))) 7 ((nI 5040))))), (ea, .inl (cA, 7, .inl (fun _ => 0)))] := hD
  have hP9 := hP.sub (ws' := [(h, .inr (0, [.ref fa, .ref ea, .int (nI 4), .int (nI 0)])), (fa, .inl (cA, 8, .inl (upd (upd (upd (upd (upd (upd (upd (upd (fun _ => 0) 0 ((nI 1))) 1 ((nI 1))) 2 ((nI 2))) 3 ((nI 6))) 4 ((nI 24))) 5 ((nI 120))) 6 ((nI 720))) 7 ((nI 5040))))), (ea, .inl (cA, 7, .inl (fun _ => 0)))]) [0, 1, 2] rfl
  have hD9 := hD.sub (ws' := [(h, .inr (0, [.ref fa, .ref ea, .int (nI 4), .int (nI 0)])), (fa, .inl (cA, 8, .inl (upd (upd (upd (upd (upd (upd (upd (upd (fun _ => 0) 0 ((nI 1))) 1 ((nI 1))) 2 ((nI 2))) 3 ((nI 6))) 4 ((nI 24))) 5 ((nI 120))) 6 ((nI 720))) 7 ((nI 5040))))), (ea, .inl (cA, 7, .inl (fun _ => 0)))]) [0, 1, 2] (by decide) rfl
  rw [hQ]
  exact W.vret hx hb hr (fun t ht hW => ⟨⟨(fa, ea, upd (upd (upd (upd (upd (upd (upd (upd (fun _ => 0) 0 ((nI 1))) 1 ((nI 1))) 2 ((nI 2))) 3 ((nI 6))) 4 ((nI 24))) 5 ((nI 120))) 6 ((nI 720))) 7 ((nI 5040))), rfl, fun k hk => by rcases (show k = 0 ∨ k = 1 ∨ k = 2 ∨ k = 3 ∨ k = 4 ∨ k = 5 ∨ k = 6 ∨ k = 7 by omega) with rfl | rfl | rfl | rfl | rfl | rfl | rfl | rfl <;> rfl, by rw [ht]; exact hP9, va_K.moved hW.alike hK, hD9⟩, hS.F ht⟩) hS.2.2 d_X_init_71
set_option maxHeartbeats 4000000 in
set_option maxRecDepth 100000 in
/-- RankDesk.size -/
theorem c_X_size (l : Launch) (D : va_G) (cA : ClassId) (sz h : Nat) (v0 v1 v2 v3 : Value) (a : Int32) : Met l y_X_size wz_X_size { frames := 0, cells := 0, slots := 0, locals := 0 } (va_Pc [.ref h, .int a] (wd_Z D cA sz [(h, .inr (0, [v0, v1, v2, v3]))])) (va_Qv (fun (_ : Unit) => True) (fun _ t => wd_T D cA (va_A [(h, .inr (0, [v0, v1, v2, v3]))] sz) [(h, .inr (0, [v0, v1, .int (nI (1 + zn_pl a 7)), .int (nI 0)]))] t) (va_A [(h, .inr (0, [v0, v1, v2, v3]))] sz)) 0 0 (va_A [(h, .inr (0, [v0, v1, v2, v3]))] sz) := by
  refine Met.ofW (cc := b_X_size) (maxL := 2) (ret := none) (by decide) rfl ?_
  intro p e s m args below meth c s₁ B hml hv
  obtain ⟨rfl, hsz, hP, hK, hD0⟩ := hv
  have hx := B.exec
  have hb := B.bytes
  have hr := B.returns
  have hlocks := B.notSynchronized
  have hown : s.vm.findClass "RankDesk" = some m.cls := findClass_of_methodNamed B.named
  have ht : ∀ w ∈ lw_g, w.before ([.ref h, .int a] : List Value).toArray s = true := fun w hw => atoms_spec (ws := wz_X_size) B.pre w (List.mem_cons_of_mem _ hw)
  subst hsz
  have hD := hD0.self (sz := s.heap.size)
  obtain ⟨A, hAe⟩ : ∃ A, A = va_A [(h, .inr (0, [v0, v1, v2, v3]))] s.heap.size := ⟨_, rfl⟩
  rw [← hAe] at hD ⊢
  have hA : ∀ q : Nat, s.heap.size ≤ q → A q := fun q h => by rw [hAe]; exact Or.inr h
  have hS : va_S A s.heap s.heap [] := va_S.rf
  have hP : va_P D classes [(h, .inr (0, [v0, v1, v2, v3]))] s.heap := hP
  obtain ⟨Q, hQ⟩ : ∃ Q, Q = MQ below (va_Qv (fun (_ : Unit) => True) (fun _ t => wd_T D cA A [(h, .inr (0, [v0, v1, .int (nI (1 + zn_pl a 7)), .int (nI 0)]))] t) A) ([.ref h, .int a] : List Value).toArray s 0 0 A := ⟨_, rfl⟩
  rw [← hQ]
  have hl := lv_entry ([.ref h, .int a]) (n := 2) (Nat.le_of_ble_eq_true rfl)
  rw [lg_entry_eq]
  generalize (lg_sl ([.ref h, .int a]) ++ List.replicate (2 - (lg_sl ([.ref h, .int a])).length) Slot.unset).toArray = ls at hl ⊢
  have hl : lv_has ls 2 [(0, .ref h), (1, .int a)] := hl
  show W p l e { frames := 0, cells := 0, slots := 0, locals := 0 } s m ([.ref h, .int a] : List Value).toArray below meth c s.heap [] 0 0 Q (F0 m 0 ls [])
  refine lv_aload_n hx hb d_X_size_0 rfl (lv_at hl 0 rfl) ?_
  refine lv_iconst (v := (nI 1)) hx hb d_X_size_1 (by decide) ?_
  refine lv_iload_n hx hb d_X_size_2 rfl (lv_at hl 1 rfl) ?_
  refine lv_ldc hx hb hown (ht _ tv_X_29) d_X_size_3 ?_
  refine lv_iand hx hb d_X_size_5 ?_
  refine rw_top (zn_max a) ?_
  refine lv_bipush (v := (nI 7)) hx hb d_X_size_6 (by decide) ?_
  refine rw_irem (r := zn_pl a 7) hx hb d_X_size_8 (by omega) (by omega) (by omega) rfl ?_
  refine rw_iadd (r := 1 + (zn_pl a 7)) hx hb d_X_size_9 rfl ?_
  refine pw_X_16 hx hb ht hown hK hP hD hS 0 rfl d_X_size_10 (fun H locs hP hD hS => ?_)
  have hP : va_P D classes [(h, .inr (0, [v0, v1, .int (nI (1 + (zn_pl a 7))), v3]))] H := hP
  have hD : va_D A [(h, .inr (0, [v0, v1, .int (nI (1 + (zn_pl a 7))), v3]))] := hD
  refine lv_aload_n hx hb d_X_size_13 rfl (lv_at hl 0 rfl) ?_
  refine lv_iconst (v := (nI 0)) hx hb d_X_size_14 (by decide) ?_
  refine pw_X_20 hx hb ht hown hK hP hD hS 0 rfl d_X_size_15 (fun H locs hP hD hS => ?_)
  have hP : va_P D classes [(h, .inr (0, [v0, v1, .int (nI (1 + (zn_pl a 7))), .int (nI 0)]))] H := hP
  have hD : va_D A [(h, .inr (0, [v0, v1, .int (nI (1 + (zn_pl a 7))), .int (nI 0)]))] := hD
  have hP9 := hP.sub (ws' := [(h, .inr (0, [v0, v1, .int (nI (1 + (zn_pl a 7))), .int (nI 0)]))]) [0] rfl
  have hD9 := hD.sub (ws' := [(h, .inr (0, [v0, v1, .int (nI (1 + (zn_pl a 7))), .int (nI 0)]))]) [0] (by decide) rfl
  rw [hQ]
  exact W.vret hx hb hr (fun t ht hW => ⟨⟨(), rfl, trivial, by rw [ht]; exact hP9, va_K.moved hW.alike hK, hD9⟩, hS.F ht⟩) hS.2.2 d_X_size_18
set_option maxHeartbeats 4000000 in
set_option maxRecDepth 100000 in
/-- RankDesk.unrank -/
theorem c_X_unrank (l : Launch) (D : va_G) (cA : ClassId) (sz h fa : Nat) (v1 : Value) (ff : Nat → Int32) (a : Int32) (n r : Nat) (hn0 : 1 ≤ n) (hn : n ≤ 7) (hff : ∀ k, k < 8 → ff k = nI (pf_fac k)) : Met l y_X_unrank wz_X_unrank { frames := 0, cells := 0, slots := 0, locals := 0 } (va_Pc [.ref h, .int a] (wd_Z D cA sz [(h, .inr (0, [.ref fa, v1, .int (nI n), .int (nI r)])), (fa, .inl (cA, 8, .inl ff))])) (va_Qv (fun (_ : Unit) => True) (fun _ t => wd_T D cA (va_A [(h, .inr (0, [.ref fa, v1, .int (nI n), .int (nI r)])), (fa, .inl (cA, 8, .inl ff))] sz) [(h, .inr (0, [.ref fa, v1, .int (nI n), .int (nI (zn_pl a (pf_fac n)))])), (fa, .inl (cA, 8, .inl ff))] t) (va_A [(h, .inr (0, [.ref fa, v1, .int (nI n), .int (nI r)])), (fa, .inl (cA, 8, .inl ff))] sz)) 0 0 (va_A [(h, .inr (0, [.ref fa, v1, .int (nI n), .int (nI r)])), (fa, .inl (cA, 8, .inl ff))] sz) := by
  refine Met.ofW (cc := b_X_unrank) (maxL := 2) (ret := none) (by decide) rfl ?_
  intro p e s m args below meth c s₁ B hml hv
  obtain ⟨rfl, hsz, hP, hK, hD0⟩ := hv
  have hx := B.exec
  have hb := B.bytes
  have hr := B.returns
  have hlocks := B.notSynchronized
  have hown : s.vm.findClass "RankDesk" = some m.cls := findClass_of_methodNamed B.named
  have ht : ∀ w ∈ lw_g, w.before ([.ref h, .int a] : List Value).toArray s = true := fun w hw => atoms_spec (ws := wz_X_unrank) B.pre w (List.mem_cons_of_mem _ hw)
  subst hsz
  have hD := hD0.self (sz := s.heap.size)
  obtain ⟨A, hAe⟩ : ∃ A, A = va_A [(h, .inr (0, [.ref fa, v1, .int (nI n), .int (nI r)])), (fa, .inl (cA, 8, .inl ff))] s.heap.size := ⟨_, rfl⟩
  rw [← hAe] at hD ⊢
  have hA : ∀ q : Nat, s.heap.size ≤ q → A q := fun q h => by rw [hAe]; exact Or.inr h
  have hS : va_S A s.heap s.heap [] := va_S.rf
  have hP : va_P D classes [(h, .inr (0, [.ref fa, v1, .int (nI n), .int (nI r)])), (fa, .inl (cA, 8, .inl ff))] s.heap := hP
  obtain ⟨Q, hQ⟩ : ∃ Q, Q = MQ below (va_Qv (fun (_ : Unit) => True) (fun _ t => wd_T D cA A [(h, .inr (0, [.ref fa, v1, .int (nI n), .int (nI (zn_pl a (pf_fac n)))])), (fa, .inl (cA, 8, .inl ff))] t) A) ([.ref h, .int a] : List Value).toArray s 0 0 A := ⟨_, rfl⟩
  rw [← hQ]
  have hl := lv_entry ([.ref h, .int a]) (n := 2) (Nat.le_of_ble_eq_true rfl)
  rw [lg_entry_eq]
  generalize (lg_sl ([.ref h, .int a]) ++ List.replicate (2 - (lg_sl ([.ref h, .int a])).length) Slot.unset).toArray = ls at hl ⊢
  have hl : lv_has ls 2 [(0, .ref h), (1, .int a)] := hl
  show W p l e { frames := 0, cells := 0, slots := 0, locals := 0 } s m ([.ref h, .int a] : List Value).toArray below meth c s.heap [] 0 0 Q (F0 m 0 ls [])
  have hf1 := pf_fac_pos n
  have hf2 := pf_fac_le n
  refine lv_aload_n hx hb d_X_unrank_0 rfl (lv_at hl 0 rfl) ?_
  refine lv_iload_n hx hb d_X_unrank_1 rfl (lv_at hl 1 rfl) ?_
  refine lv_ldc hx hb hown (ht _ tv_X_29) d_X_unrank_2 ?_
  refine lv_iand hx hb d_X_unrank_4 ?_
  refine rw_top (zn_max a) ?_
  refine lv_aload_n hx hb d_X_unrank_5 rfl (lv_at hl 0 rfl) ?_
  refine gf_X_7 hx hb ht hown hK hP 0 rfl d_X_unrank_6 ?_
  refine lv_aload_n hx hb d_X_unrank_9 rfl (lv_at hl 0 rfl) ?_
  refine gf_X_16 hx hb ht hown hK hP 0 rfl d_X_unrank_10 ?_
  refine rw_iald (v := (nI (pf_fac n))) hx hb hK hP 1 rfl (by omega) (by omega) (hff _ (by omega)) d_X_unrank_13 ?_
  refine rw_irem (r := zn_pl a (pf_fac n)) hx hb d_X_unrank_14 (by omega) (by omega) (by omega) rfl ?_
  refine pw_X_20 hx hb ht hown hK hP hD hS 0 rfl d_X_unrank_15 (fun H locs hP hD hS => ?_)
  have hP : va_P D classes [(h, .inr (0, [.ref fa, v1, .int (nI n), .int (nI (zn_pl a (pf_fac n)))])), (fa, .inl (cA, 8, .inl ff))] H := hP
  have hD : va_D A [(h, .inr (0, [.ref fa, v1, .int (nI n), .int (nI (zn_pl a (pf_fac n)))])), (fa, .inl (cA, 8, .inl ff))] := hD
  have hP9 := hP.sub (ws' := [(h, .inr (0, [.ref fa, v1, .int (nI n), .int (nI (zn_pl a (pf_fac n)))])), (fa, .inl (cA, 8, .inl ff))]) [0, 1] rfl
  have hD9 := hD.sub (ws' := [(h, .inr (0, [.ref fa, v1, .int (nI n), .int (nI (zn_pl a (pf_fac n)))])), (fa, .inl (cA, 8, .inl ff))]) [0, 1] (by decide) rfl
  rw [hQ]
  exact W.vret hx hb hr (fun t ht hW => ⟨⟨(), rfl, trivial, by rw [ht]; exact hP9, va_K.moved hW.alike hK, hD9⟩, hS.F ht⟩) hS.2.2 d_X_unrank_18
set_option maxHeartbeats 4000000 in
set_option maxRecDepth 100000 in
/-- RankDesk.forward -/
theorem c_X_forward (l : Launch) (D : va_G) (cA : ClassId) (sz h fa : Nat) (v1 : Value) (ff : Nat → Int32) (n r : Nat) (hn0 : 1 ≤ n) (hn : n ≤ 7) (hr0 : r < pf_fac n) (hff : ∀ k, k < 8 → ff k = nI (pf_fac k)) : Met l y_X_forward wz_X_forward { frames := 0, cells := 0, slots := 0, locals := 0 } (va_Pc [.ref h] (wd_Z D cA sz [(h, .inr (0, [.ref fa, v1, .int (nI n), .int (nI r)])), (fa, .inl (cA, 8, .inl ff))])) (va_Qi (fun (r_ : Int32) (_ : Unit) => r_ = nI (pf_fb n r)) (fun _ t => wd_T D cA (va_A [(h, .inr (0, [.ref fa, v1, .int (nI n), .int (nI r)])), (fa, .inl (cA, 8, .inl ff))] sz) [(h, .inr (0, [.ref fa, v1, .int (nI n), .int (nI (pf_fw n r))])), (fa, .inl (cA, 8, .inl ff))] t) (va_A [(h, .inr (0, [.ref fa, v1, .int (nI n), .int (nI r)])), (fa, .inl (cA, 8, .inl ff))] sz)) 0 0 (va_A [(h, .inr (0, [.ref fa, v1, .int (nI n), .int (nI r)])), (fa, .inl (cA, 8, .inl ff))] sz) := by
  refine Met.ofW (cc := b_X_forward) (maxL := 1) (ret := (some .boolean)) (by decide) rfl ?_
  intro p e s m args below meth c s₁ B hml hv
  obtain ⟨rfl, hsz, hP, hK, hD0⟩ := hv
  have hx := B.exec
  have hb := B.bytes
  have hr := B.returns
  have hlocks := B.notSynchronized
  have hown : s.vm.findClass "RankDesk" = some m.cls := findClass_of_methodNamed B.named
  have ht : ∀ w ∈ lw_g, w.before ([.ref h] : List Value).toArray s = true := fun w hw => atoms_spec (ws := wz_X_forward) B.pre w (List.mem_cons_of_mem _ hw)
  subst hsz
  have hD := hD0.self (sz := s.heap.size)
  obtain ⟨A, hAe⟩ : ∃ A, A = va_A [(h, .inr (0, [.ref fa, v1, .int (nI n), .int (nI r)])), (fa, .inl (cA, 8, .inl ff))] s.heap.size := ⟨_, rfl⟩
  rw [← hAe] at hD ⊢
  have hA : ∀ q : Nat, s.heap.size ≤ q → A q := fun q h => by rw [hAe]; exact Or.inr h
  have hS : va_S A s.heap s.heap [] := va_S.rf
  have hP : va_P D classes [(h, .inr (0, [.ref fa, v1, .int (nI n), .int (nI r)])), (fa, .inl (cA, 8, .inl ff))] s.heap := hP
  obtain ⟨Q, hQ⟩ : ∃ Q, Q = MQ below (va_Qi (fun (r_ : Int32) (_ : Unit) => r_ = nI (pf_fb n r)) (fun _ t => wd_T D cA A [(h, .inr (0, [.ref fa, v1, .int (nI n), .int (nI (pf_fw n r))])), (fa, .inl (cA, 8, .inl ff))] t) A) ([.ref h] : List Value).toArray s 0 0 A := ⟨_, rfl⟩
  rw [← hQ]
  have hl := lv_entry ([.ref h]) (n := 1) (Nat.le_of_ble_eq_true rfl)
  rw [lg_entry_eq]
  generalize (lg_sl ([.ref h]) ++ List.replicate (1 - (lg_sl ([.ref h])).length) Slot.unset).toArray = ls at hl ⊢
  have hl : lv_has ls 1 [(0, .ref h)] := hl
  show W p l e { frames := 0, cells := 0, slots := 0, locals := 0 } s m ([.ref h] : List Value).toArray below meth c s.heap [] 0 0 Q (F0 m 0 ls [])
  have hf2 := pf_fac_le n
  refine lv_aload_n hx hb d_X_forward_0 rfl (lv_at hl 0 rfl) ?_
  refine lv_dup hx hb d_X_forward_1 rfl ?_
  refine gf_X_20 hx hb ht hown hK hP 0 rfl d_X_forward_2 ?_
  refine lv_iconst (v := (nI 1)) hx hb d_X_forward_5 (by decide) ?_
  refine rw_iadd (r := r + 1) hx hb d_X_forward_6 rfl ?_
  refine pw_X_20 hx hb ht hown hK hP hD hS 0 rfl d_X_forward_7 (fun H locs hP hD hS => ?_)
  have hP : va_P D classes [(h, .inr (0, [.ref fa, v1, .int (nI n), .int (nI (r + 1))])), (fa, .inl (cA, 8, .inl ff))] H := hP
  have hD : va_D A [(h, .inr (0, [.ref fa, v1, .int (nI n), .int (nI (r + 1))])), (fa, .inl (cA, 8, .inl ff))] := hD
  refine lv_aload_n hx hb d_X_forward_10 rfl (lv_at hl 0 rfl) ?_
  refine gf_X_20 hx hb ht hown hK hP 0 rfl d_X_forward_11 ?_
  refine lv_aload_n hx hb d_X_forward_14 rfl (lv_at hl 0 rfl) ?_
  refine gf_X_7 hx hb ht hown hK hP 0 rfl d_X_forward_15 ?_
  refine lv_aload_n hx hb d_X_forward_18 rfl (lv_at hl 0 rfl) ?_
  refine gf_X_16 hx hb ht hown hK hP 0 rfl d_X_forward_19 ?_
  refine rw_iald (v := (nI (pf_fac n))) hx hb hK hP 1 rfl (by omega) (by omega) (hff _ (by omega)) d_X_forward_22 ?_
  refine rw_cge (tgt := 28) hx hb d_X_forward_23 (by decide) (by omega) (by omega) (fun c1 => ?_) (fun c1 => ?_)
  · refine lv_aload_n hx hb d_X_forward_28 rfl (lv_at hl 0 rfl) ?_
    refine lv_iconst (v := (nI 0)) hx hb d_X_forward_29 (by decide) ?_
    refine pw_X_20 hx hb ht hown hK hP hD hS 0 rfl d_X_forward_30 (fun H locs hP hD hS => ?_)
    have hP : va_P D classes [(h, .inr (0, [.ref fa, v1, .int (nI n), .int (nI 0)])), (fa, .inl (cA, 8, .inl ff))] H := hP
    have hD : va_D A [(h, .inr (0, [.ref fa, v1, .int (nI n), .int (nI 0)])), (fa, .inl (cA, 8, .inl ff))] := hD
    refine lv_iconst (v := (nI 0)) hx hb d_X_forward_33 (by decide) ?_
    have e1 : pf_fw n r = 0 := if_neg (by omega)
    have e2 : pf_fb n r = 0 := if_neg (by omega)
    have hP : va_P D classes [(h, .inr (0, [.ref fa, v1, .int (nI n), .int (nI (pf_fw n r))])), (fa, .inl (cA, 8, .inl ff))] H := by rw [e1]; exact hP
    have hD : va_D A [(h, .inr (0, [.ref fa, v1, .int (nI n), .int (nI (pf_fw n r))])), (fa, .inl (cA, 8, .inl ff))] := by rw [e1]; exact hD
    have hP9 := hP.sub (ws' := [(h, .inr (0, [.ref fa, v1, .int (nI n), .int (nI (pf_fw n r))])), (fa, .inl (cA, 8, .inl ff))]) [0, 1] rfl
    have hD9 := hD.sub (ws' := [(h, .inr (0, [.ref fa, v1, .int (nI n), .int (nI (pf_fw n r))])), (fa, .inl (cA, 8, .inl ff))]) [0, 1] (by decide) rfl
    rw [hQ]
    exact W.zret (v := (nI 0)) (ty := .boolean) hx hb hr rfl (fun t ht hW => ⟨⟨(nI 0), (), rfl, by rw [e2], by rw [ht]; exact hP9, va_K.moved hW.alike hK, hD9⟩, hS.F ht⟩) hS.2.2 d_X_forward_34
  · refine lv_iconst (v := (nI 1)) hx hb d_X_forward_26 (by decide) ?_
    have e1 : pf_fw n r = r + 1 := if_pos c1
    have e2 : pf_fb n r = 1 := if_pos c1
    have hP : va_P D classes [(h, .inr (0, [.ref fa, v1, .int (nI n), .int (nI (pf_fw n r))])), (fa, .inl (cA, 8, .inl ff))] H := by rw [e1]; exact hP
    have hD : va_D A [(h, .inr (0, [.ref fa, v1, .int (nI n), .int (nI (pf_fw n r))])), (fa, .inl (cA, 8, .inl ff))] := by rw [e1]; exact hD
    have hP9 := hP.sub (ws' := [(h, .inr (0, [.ref fa, v1, .int (nI n), .int (nI (pf_fw n r))])), (fa, .inl (cA, 8, .inl ff))]) [0, 1] rfl
    have hD9 := hD.sub (ws' := [(h, .inr (0, [.ref fa, v1, .int (nI n), .int (nI (pf_fw n r))])), (fa, .inl (cA, 8, .inl ff))]) [0, 1] (by decide) rfl
    rw [hQ]
    exact W.zret (v := (nI 1)) (ty := .boolean) hx hb hr rfl (fun t ht hW => ⟨⟨(nI 1), (), rfl, by rw [e2], by rw [ht]; exact hP9, va_K.moved hW.alike hK, hD9⟩, hS.F ht⟩) hS.2.2 d_X_forward_27
set_option maxHeartbeats 4000000 in
set_option maxRecDepth 100000 in
/-- RankDesk.swap -/
theorem c_X_swap (l : Launch) (D : va_G) (cA : ClassId) (sz h fa : Nat) (v1 : Value) (ff : Nat → Int32) (a b : Int32) (n r : Nat) (hn0 : 1 ≤ n) (hn : n ≤ 7) (hr0 : r < pf_fac n) (hff : ∀ k, k < 8 → ff k = nI (pf_fac k)) : Met l y_X_swap wz_X_swap { frames := 4, cells := 2, slots := 4, locals := 83 } (va_Pc [.ref h, .int a, .int b] (wd_Z D cA sz [(h, .inr (0, [.ref fa, v1, .int (nI n), .int (nI r)])), (fa, .inl (cA, 8, .inl ff))])) (va_Qi (fun (r_ : Int32) (_ : Unit) => r_ = nI (pf_sb (zn_pl a n) (zn_pl b n))) (fun _ t => wd_T D cA (va_A [(h, .inr (0, [.ref fa, v1, .int (nI n), .int (nI r)])), (fa, .inl (cA, 8, .inl ff))] sz) [(h, .inr (0, [.ref fa, v1, .int (nI n), .int (nI (pf_sr n r (zn_pl a n) (zn_pl b n)))])), (fa, .inl (cA, 8, .inl ff))] t) (va_A [(h, .inr (0, [.ref fa, v1, .int (nI n), .int (nI r)])), (fa, .inl (cA, 8, .inl ff))] sz)) 2 4 (va_A [(h, .inr (0, [.ref fa, v1, .int (nI n), .int (nI r)])), (fa, .inl (cA, 8, .inl ff))] sz) := by
  refine Met.ofW (cc := b_X_swap) (maxL := 5) (ret := (some .boolean)) (by decide) rfl ?_
  intro p e s m args below meth c s₁ B hml hv
  obtain ⟨rfl, hsz, hP, hK, hD0⟩ := hv
  have hx := B.exec
  have hb := B.bytes
  have hr := B.returns
  have hlocks := B.notSynchronized
  have hown : s.vm.findClass "RankDesk" = some m.cls := findClass_of_methodNamed B.named
  have ht : ∀ w ∈ lw_g, w.before ([.ref h, .int a, .int b] : List Value).toArray s = true := fun w hw => atoms_spec (ws := wz_X_swap) B.pre w (List.mem_cons_of_mem _ hw)
  subst hsz
  have hD := hD0.self (sz := s.heap.size)
  obtain ⟨A, hAe⟩ : ∃ A, A = va_A [(h, .inr (0, [.ref fa, v1, .int (nI n), .int (nI r)])), (fa, .inl (cA, 8, .inl ff))] s.heap.size := ⟨_, rfl⟩
  rw [← hAe] at hD ⊢
  have hA : ∀ q : Nat, s.heap.size ≤ q → A q := fun q h => by rw [hAe]; exact Or.inr h
  have hS : va_S A s.heap s.heap [] := va_S.rf
  have hP : va_P D classes [(h, .inr (0, [.ref fa, v1, .int (nI n), .int (nI r)])), (fa, .inl (cA, 8, .inl ff))] s.heap := hP
  obtain ⟨Q, hQ⟩ : ∃ Q, Q = MQ below (va_Qi (fun (r_ : Int32) (_ : Unit) => r_ = nI (pf_sb (zn_pl a n) (zn_pl b n))) (fun _ t => wd_T D cA A [(h, .inr (0, [.ref fa, v1, .int (nI n), .int (nI (pf_sr n r (zn_pl a n) (zn_pl b n)))])), (fa, .inl (cA, 8, .inl ff))] t) A) ([.ref h, .int a, .int b] : List Value).toArray s 2 4 A := ⟨_, rfl⟩
  rw [← hQ]
  have hl := lv_entry ([.ref h, .int a, .int b]) (n := 5) (Nat.le_of_ble_eq_true rfl)
  rw [lg_entry_eq]
  generalize (lg_sl ([.ref h, .int a, .int b]) ++ List.replicate (5 - (lg_sl ([.ref h, .int a, .int b])).length) Slot.unset).toArray = ls at hl ⊢
  have hl : lv_has ls 5 [(0, .ref h), (1, .int a), (2, .int b)] := hl
  show W p l e { frames := 4, cells := 2, slots := 4, locals := 83 } s m ([.ref h, .int a, .int b] : List Value).toArray below meth c s.heap [] 0 0 Q (F0 m 0 ls [])
  have hpa := zn_plt a (show 0 < n by omega)
  have hpb := zn_plt b (show 0 < n by omega)
  have hwl := pu_lt hn0 hn hr0
  refine lv_aload_n hx hb d_X_swap_0 rfl (lv_at hl 0 rfl) ?_
  refine lv_iload_n hx hb d_X_swap_1 rfl (lv_at hl 1 rfl) ?_
  refine rc_V (As := [.int a]) (rest := []) ⟨hx, hb, hml, hown, ht⟩ (c_X_place l D cA h (.ref fa) v1 (.int (nI r)) a n (by omega) hn) mb_X_place tm_X_place ts_X_place tl_X_30 rfl rfl ⟨Nat.le_of_ble_eq_true rfl, Nat.le_of_ble_eq_true rfl⟩ (pr_V (q0 := 0) (ci := 0) (pr_R hP hK [0] rfl) hP hK rfl rfl rfl) rfl hl.1 rfl (Nat.le_of_ble_eq_true rfl) d_X_swap_2 ⟨Nat.le_of_ble_eq_true rfl, Nat.le_of_ble_eq_true rfl⟩ ?_
  refine lv_istore_n (lv' := [(3, .int (nI (zn_pl a n))), (0, .ref h), (1, .int a), (2, .int b)]) hx hb d_X_swap_5 rfl hl (by decide) rfl (fun ls hl => ?_)
  refine lv_aload_n hx hb d_X_swap_6 rfl (lv_at hl 1 rfl) ?_
  refine lv_iload_n hx hb d_X_swap_7 rfl (lv_at hl 3 rfl) ?_
  refine rc_V (As := [.int b]) (rest := []) ⟨hx, hb, hml, hown, ht⟩ (c_X_place l D cA h (.ref fa) v1 (.int (nI r)) b n (by omega) hn) mb_X_place tm_X_place ts_X_place tl_X_30 rfl rfl ⟨Nat.le_of_ble_eq_true rfl, Nat.le_of_ble_eq_true rfl⟩ (pr_V (q0 := 0) (ci := 0) (pr_R hP hK [0] rfl) hP hK rfl rfl rfl) rfl hl.1 rfl (Nat.le_of_ble_eq_true rfl) d_X_swap_8 ⟨Nat.le_of_ble_eq_true rfl, Nat.le_of_ble_eq_true rfl⟩ ?_
  refine lv_istore (lv' := [(4, .int (nI (zn_pl b n))), (3, .int (nI (zn_pl a n))), (0, .ref h), (1, .int a), (2, .int b)]) hx hb d_X_swap_11 hl (by decide) rfl (fun ls hl => ?_)
  refine lv_iload_n hx hb d_X_swap_13 rfl (lv_at hl 1 rfl) ?_
  refine lv_iload hx hb d_X_swap_14 (lv_at hl 0 rfl) ?_
  refine rw_cne (tgt := 21) hx hb d_X_swap_16 (by decide) (by omega) (by omega) (fun c1 => ?_) (fun c1 => ?_)
  · refine lv_aload_n hx hb d_X_swap_21 rfl (lv_at hl 2 rfl) ?_
    refine lv_aload_n hx hb d_X_swap_22 rfl (lv_at hl 2 rfl) ?_
    refine cl_r (D := D) (cA := cA) (wc := []) (wr := [(h, .inr (0, [.ref fa, v1, .int (nI n), .int (nI r)])), (fa, .inl (cA, 8, .inl ff))]) (w1 := fun _ q => [(q, .inr (1, [.int (nI n), .int (nI (pf_un n r))]))]) (rn_V (As := []) (rest := [.ref h]) ⟨hx, hb, hml, hown, ht⟩ (c_X_order l D cA s.heap.size h fa v1 ff n r hn0 hn hr0 hff) mb_X_order tm_X_order ts_X_order tl_X_34 rfl rfl ⟨Nat.le_of_ble_eq_true rfl, Nat.le_of_ble_eq_true rfl⟩ (pr_V (q0 := 0) (ci := 0) (pr_M hP hK [0, 1] rfl) hP hK rfl rfl rfl) rfl hl.1 rfl (Nat.le_of_ble_eq_true rfl) d_X_swap_23 ⟨Nat.le_of_ble_eq_true rfl, Nat.le_of_ble_eq_true rfl⟩) hP hD hS hA [] [0, 1] rfl rfl (by decide) (by decide) (fun u_ q H locs hw hP hD hS => ?_)
    have hP : va_P D classes [(h, .inr (0, [.ref fa, v1, .int (nI n), .int (nI r)])), (fa, .inl (cA, 8, .inl ff)), (q, .inr (1, [.int (nI n), .int (nI (pf_un n r))]))] H := hP
    have hD : va_D A [(h, .inr (0, [.ref fa, v1, .int (nI n), .int (nI r)])), (fa, .inl (cA, 8, .inl ff)), (q, .inr (1, [.int (nI n), .int (nI (pf_un n r))]))] := hD
    refine W.widen (k := 1) (n := 2) (by omega) (by omega) ?_
    refine lv_iload_n hx hb d_X_swap_26 rfl (lv_at hl 1 rfl) ?_
    refine lv_iload hx hb d_X_swap_27 (lv_at hl 0 rfl) ?_
    refine cl_r (D := D) (cA := cA) (wc := []) (wr := [(h, .inr (0, [.ref fa, v1, .int (nI n), .int (nI r)])), (fa, .inl (cA, 8, .inl ff)), (q, .inr (1, [.int (nI n), .int (nI (pf_un n r))]))]) (w1 := fun _ q2 => [(q2, .inr (1, [.int (nI n), .int (nI (pf_xc (pf_un n r) (zn_pl a n) (zn_pl b n)))]))]) (rn_V (As := [.int (nI (zn_pl a n)), .int (nI (zn_pl b n))]) (rest := [.ref h]) ⟨hx, hb, hml, hown, ht⟩ (c_K_exchanged l D cA H.size q n (pf_un n r) (zn_pl a n) (zn_pl b n) hwl (by omega) (by omega)) mb_K_exchanged tm_K_exchanged ts_K_exchanged tl_X_38 rfl rfl ⟨Nat.le_of_ble_eq_true rfl, Nat.le_of_ble_eq_true rfl⟩ (pr_V (q0 := 2) (ci := 1) (pr_M hP hK [2] rfl) hP hK rfl rfl rfl) rfl hl.1 rfl (Nat.le_of_ble_eq_true rfl) d_X_swap_29 ⟨Nat.le_of_ble_eq_true rfl, Nat.le_of_ble_eq_true rfl⟩) hP hD hS hA [] [0, 1, 2] rfl rfl (by decide) (by decide) (fun u_ q2 H locs hw hP hD hS => ?_)
    have hP : va_P D classes [(h, .inr (0, [.ref fa, v1, .int (nI n), .int (nI r)])), (fa, .inl (cA, 8, .inl ff)), (q, .inr (1, [.int (nI n), .int (nI (pf_un n r))])), (q2, .inr (1, [.int (nI n), .int (nI (pf_xc (pf_un n r) (zn_pl a n) (zn_pl b n)))]))] H := hP
    have hD : va_D A [(h, .inr (0, [.ref fa, v1, .int (nI n), .int (nI r)])), (fa, .inl (cA, 8, .inl ff)), (q, .inr (1, [.int (nI n), .int (nI (pf_un n r))])), (q2, .inr (1, [.int (nI n), .int (nI (pf_xc (pf_un n r) (zn_pl a n) (zn_pl b n)))]))] := hD
    refine W.widen (k := 2) (n := 4) (by omega) (by omega) ?_
    have hxl : pf_xc (pf_un n r) (zn_pl a n) (zn_pl b n) < 2 ^ 21 := Nat.xor_lt_two_pow (Nat.xor_lt_two_pow hwl (zn_nsh (zn_x8 _ _ _) (by omega))) (zn_nsh (zn_x8 _ _ _) (by omega))
    refine lv_aload_n hx hb d_X_swap_32 rfl (lv_at hl 2 rfl) ?_
    refine gf_X_7 hx hb ht hown hK hP 0 rfl d_X_swap_33 ?_
    refine rc_V (As := [.ref fa]) (rest := [.ref h]) ⟨hx, hb, hml, hown, ht⟩ (c_K_rank l D cA q2 fa ff n (pf_xc (pf_un n r) (zn_pl a n) (zn_pl b n)) hn0 hn hxl hff) mb_K_rank tm_K_rank ts_K_rank tl_X_42 rfl rfl ⟨Nat.le_of_ble_eq_true rfl, Nat.le_of_ble_eq_true rfl⟩ (pr_V (q0 := 3) (ci := 1) (pr_R hP hK [3, 1] rfl) hP hK rfl rfl rfl) rfl hl.1 rfl (Nat.le_of_ble_eq_true rfl) d_X_swap_36 ⟨Nat.le_of_ble_eq_true rfl, Nat.le_of_ble_eq_true rfl⟩ ?_
    have e1 : pf_sr n r (zn_pl a n) (zn_pl b n) = pf_rk n (pf_xc (pf_un n r) (zn_pl a n) (zn_pl b n)) := if_neg c1
    have e2 : pf_sb (zn_pl a n) (zn_pl b n) = 1 := if_neg c1
    rw [← e1]
    refine pw_X_20 hx hb ht hown hK hP hD hS 0 rfl d_X_swap_39 (fun H locs hP hD hS => ?_)
    have hP : va_P D classes [(h, .inr (0, [.ref fa, v1, .int (nI n), .int (nI (pf_sr n r (zn_pl a n) (zn_pl b n)))])), (fa, .inl (cA, 8, .inl ff)), (q, .inr (1, [.int (nI n), .int (nI (pf_un n r))])), (q2, .inr (1, [.int (nI n), .int (nI (pf_xc (pf_un n r) (zn_pl a n) (zn_pl b n)))]))] H := hP
    have hD : va_D A [(h, .inr (0, [.ref fa, v1, .int (nI n), .int (nI (pf_sr n r (zn_pl a n) (zn_pl b n)))])), (fa, .inl (cA, 8, .inl ff)), (q, .inr (1, [.int (nI n), .int (nI (pf_un n r))])), (q2, .inr (1, [.int (nI n), .int (nI (pf_xc (pf_un n r) (zn_pl a n) (zn_pl b n)))]))] := hD
    refine lv_iconst (v := (nI 1)) hx hb d_X_swap_42 (by decide) ?_
    have hP9 := hP.sub (ws' := [(h, .inr (0, [.ref fa, v1, .int (nI n), .int (nI (pf_sr n r (zn_pl a n) (zn_pl b n)))])), (fa, .inl (cA, 8, .inl ff))]) [0, 1] rfl
    have hD9 := hD.sub (ws' := [(h, .inr (0, [.ref fa, v1, .int (nI n), .int (nI (pf_sr n r (zn_pl a n) (zn_pl b n)))])), (fa, .inl (cA, 8, .inl ff))]) [0, 1] (by decide) rfl
    rw [hQ]
    exact W.zret (v := (nI 1)) (ty := .boolean) hx hb hr rfl (fun t ht hW => ⟨⟨(nI 1), (), rfl, by rw [e2], by rw [ht]; exact hP9, va_K.moved hW.alike hK, hD9⟩, hS.F ht⟩) hS.2.2 d_X_swap_43
  · have e1 : pf_sr n r (zn_pl a n) (zn_pl b n) = r := if_pos c1
    have e2 : pf_sb (zn_pl a n) (zn_pl b n) = 0 := if_pos c1
    refine lv_iconst (v := (nI 0)) hx hb d_X_swap_19 (by decide) ?_
    have hP : va_P D classes [(h, .inr (0, [.ref fa, v1, .int (nI n), .int (nI (pf_sr n r (zn_pl a n) (zn_pl b n)))])), (fa, .inl (cA, 8, .inl ff))] s.heap := by rw [e1]; exact hP
    have hD : va_D A [(h, .inr (0, [.ref fa, v1, .int (nI n), .int (nI (pf_sr n r (zn_pl a n) (zn_pl b n)))])), (fa, .inl (cA, 8, .inl ff))] := by rw [e1]; exact hD
    have hP9 := hP.sub (ws' := [(h, .inr (0, [.ref fa, v1, .int (nI n), .int (nI (pf_sr n r (zn_pl a n) (zn_pl b n)))])), (fa, .inl (cA, 8, .inl ff))]) [0, 1] rfl
    have hD9 := hD.sub (ws' := [(h, .inr (0, [.ref fa, v1, .int (nI n), .int (nI (pf_sr n r (zn_pl a n) (zn_pl b n)))])), (fa, .inl (cA, 8, .inl ff))]) [0, 1] (by decide) rfl
    refine W.widen (k := 2) (n := 4) (by omega) (by omega) ?_
    rw [hQ]
    exact W.zret (v := (nI 0)) (ty := .boolean) hx hb hr rfl (fun t ht hW => ⟨⟨(nI 0), (), rfl, by rw [e2], by rw [ht]; exact hP9, va_K.moved hW.alike hK, hD9⟩, hS.F ht⟩) hS.2.2 d_X_swap_20
set_option maxHeartbeats 4000000 in
set_option maxRecDepth 100000 in
/-- RankDesk.at -/
theorem c_X_at (l : Launch) (D : va_G) (cA : ClassId) (sz h fa : Nat) (v1 : Value) (ff : Nat → Int32) (a : Int32) (n r : Nat) (hn0 : 1 ≤ n) (hn : n ≤ 7) (hr0 : r < pf_fac n) (hff : ∀ k, k < 8 → ff k = nI (pf_fac k)) : Met l y_X_at wz_X_at { frames := 4, cells := 1, slots := 2, locals := 83 } (va_Pc [.ref h, .int a] (wd_M D cA sz [(h, .inr (0, [.ref fa, v1, .int (nI n), .int (nI r)])), (fa, .inl (cA, 8, .inl ff))])) (va_Qi (fun (r_ : Int32) (_ : Unit) => r_ = nI (pf_dg (pf_un n r) (zn_pl a n))) (fun _ t => wd_T D cA (va_A [] sz) [] t) (va_A [] sz)) 1 2 (va_A [] sz) := by
  refine Met.ofW (cc := b_X_at) (maxL := 2) (ret := (some .int)) (by decide) rfl ?_
  intro p e s m args below meth c s₁ B hml hv
  obtain ⟨rfl, hsz, hP, hK⟩ := hv
  have hx := B.exec
  have hb := B.bytes
  have hr := B.returns
  have hlocks := B.notSynchronized
  have hown : s.vm.findClass "RankDesk" = some m.cls := findClass_of_methodNamed B.named
  have ht : ∀ w ∈ lw_g, w.before ([.ref h, .int a] : List Value).toArray s = true := fun w hw => atoms_spec (ws := wz_X_at) B.pre w (List.mem_cons_of_mem _ hw)
  subst hsz
  obtain ⟨A, hAe⟩ : ∃ A, A = va_A [] s.heap.size := ⟨_, rfl⟩
  rw [← hAe]
  have hA : ∀ q : Nat, s.heap.size ≤ q → A q := fun q h => by rw [hAe]; exact Or.inr h
  have hS : va_S A s.heap s.heap [] := va_S.rf
  have hPr0 : va_P D classes [(h, .inr (0, [.ref fa, v1, .int (nI n), .int (nI r)])), (fa, .inl (cA, 8, .inl ff))] s.heap := hP
  have hPr := hPr0
  have hP : va_P D classes [] s.heap := fun k q h => by simp at h
  have hD : va_D A [] := ⟨fun i j p q h => by simp at h, fun k q h => by simp at h⟩
  obtain ⟨Q, hQ⟩ : ∃ Q, Q = MQ below (va_Qi (fun (r_ : Int32) (_ : Unit) => r_ = nI (pf_dg (pf_un n r) (zn_pl a n))) (fun _ t => wd_T D cA A [] t) A) ([.ref h, .int a] : List Value).toArray s 1 2 A := ⟨_, rfl⟩
  rw [← hQ]
  have hl := lv_entry ([.ref h, .int a]) (n := 2) (Nat.le_of_ble_eq_true rfl)
  rw [lg_entry_eq]
  generalize (lg_sl ([.ref h, .int a]) ++ List.replicate (2 - (lg_sl ([.ref h, .int a])).length) Slot.unset).toArray = ls at hl ⊢
  have hl : lv_has ls 2 [(0, .ref h), (1, .int a)] := hl
  show W p l e { frames := 4, cells := 1, slots := 2, locals := 83 } s m ([.ref h, .int a] : List Value).toArray below meth c s.heap [] 0 0 Q (F0 m 0 ls [])
  have hpa := zn_plt a (show 0 < n by omega)
  have hwl := pu_lt hn0 hn hr0
  refine lv_aload_n hx hb d_X_at_0 rfl (lv_at hl 0 rfl) ?_
  refine cl_r (D := D) (cA := cA) (wc := []) (wr := []) (w1 := fun _ q => [(q, .inr (1, [.int (nI n), .int (nI (pf_un n r))]))]) (rn_V (As := []) (rest := []) ⟨hx, hb, hml, hown, ht⟩ (c_X_order l D cA s.heap.size h fa v1 ff n r hn0 hn hr0 hff) mb_X_order tm_X_order ts_X_order tl_X_34 rfl rfl ⟨Nat.le_of_ble_eq_true rfl, Nat.le_of_ble_eq_true rfl⟩ (pr_V (q0 := 0) (ci := 0) (pr_M hPr hK [0, 1] rfl) hPr hK rfl rfl rfl) rfl hl.1 rfl (Nat.le_of_ble_eq_true rfl) d_X_at_1 ⟨Nat.le_of_ble_eq_true rfl, Nat.le_of_ble_eq_true rfl⟩) hP hD hS hA [] [] rfl rfl (by decide) (by decide) (fun u_ q H locs hw hP hD hS => ?_)
  have hP : va_P D classes [(q, .inr (1, [.int (nI n), .int (nI (pf_un n r))]))] H := hP
  have hD : va_D A [(q, .inr (1, [.int (nI n), .int (nI (pf_un n r))]))] := hD
  have hPr := rd_keep hPr0 hS hAe
  refine W.widen (k := 1) (n := 2) (by omega) (by omega) ?_
  refine lv_aload_n hx hb d_X_at_4 rfl (lv_at hl 0 rfl) ?_
  refine lv_iload_n hx hb d_X_at_5 rfl (lv_at hl 1 rfl) ?_
  refine rc_V (As := [.int a]) (rest := [.ref q]) ⟨hx, hb, hml, hown, ht⟩ (c_X_place l D cA h (.ref fa) v1 (.int (nI r)) a n (by omega) hn) mb_X_place tm_X_place ts_X_place tl_X_30 rfl rfl ⟨Nat.le_of_ble_eq_true rfl, Nat.le_of_ble_eq_true rfl⟩ (pr_V (q0 := 0) (ci := 0) (pr_R hPr hK [0] rfl) hPr hK rfl rfl rfl) rfl hl.1 rfl (Nat.le_of_ble_eq_true rfl) d_X_at_6 ⟨Nat.le_of_ble_eq_true rfl, Nat.le_of_ble_eq_true rfl⟩ ?_
  refine rc_V (As := [.int (nI (zn_pl a n))]) (rest := []) ⟨hx, hb, hml, hown, ht⟩ (c_K_at l D cA q (.int (nI n)) (pf_un n r) (zn_pl a n) hwl (by omega)) mb_K_at tm_K_at ts_K_at tl_X_45 rfl rfl ⟨Nat.le_of_ble_eq_true rfl, Nat.le_of_ble_eq_true rfl⟩ (pr_V (q0 := 0) (ci := 1) (pr_R hP hK [0] rfl) hP hK rfl rfl rfl) rfl hl.1 rfl (Nat.le_of_ble_eq_true rfl) d_X_at_9 ⟨Nat.le_of_ble_eq_true rfl, Nat.le_of_ble_eq_true rfl⟩ ?_
  have hP9 := hP.sub (ws' := []) [] rfl
  have hD9 := hD.sub (ws' := []) [] (by decide) rfl
  rw [hQ]
  exact W.iret (v := (nI (pf_dg (pf_un n r) (zn_pl a n)))) hx hb hr (fun t ht hW => ⟨⟨(nI (pf_dg (pf_un n r) (zn_pl a n))), (), rfl, rfl, by rw [ht]; exact hP9, va_K.moved hW.alike hK, hD9⟩, hS.F ht⟩) hS.2.2 d_X_at_12
set_option maxHeartbeats 4000000 in
set_option maxRecDepth 100000 in
/-- RankDesk.inversions -/
theorem c_X_inversions (l : Launch) (D : va_G) (cA : ClassId) (h fa : Nat) (v1 : Value) (ff : Nat → Int32) (n r : Nat) (hn0 : 1 ≤ n) (hn : n ≤ 7) (hr0 : r < pf_fac n) (hff : ∀ k, k < 8 → ff k = nI (pf_fac k)) : Met l y_X_inversions wz_X_inversions { frames := 0, cells := 0, slots := 0, locals := 0 } (va_Pc [.ref h] (wd_R D cA [(h, .inr (0, [.ref fa, v1, .int (nI n), .int (nI r)])), (fa, .inl (cA, 8, .inl ff))])) (QcRead (nI (pf_iv n 0 r))) 0 0 (fun _ => False) := by
  refine Met.ofW (cc := b_X_inversions) (maxL := 4) (ret := (some .int)) (by decide) rfl ?_
  intro p e s m args below meth c s₁ B hml hv
  obtain ⟨rfl, hP, hK⟩ := hv
  have hx := B.exec
  have hb := B.bytes
  have hr := B.returns
  have hlocks := B.notSynchronized
  have hown : s.vm.findClass "RankDesk" = some m.cls := findClass_of_methodNamed B.named
  have ht : ∀ w ∈ lw_g, w.before ([.ref h] : List Value).toArray s = true := fun w hw => atoms_spec (ws := wz_X_inversions) B.pre w (List.mem_cons_of_mem _ hw)
  obtain ⟨Q, hQ⟩ : ∃ Q, Q = MQ below (QcRead (nI (pf_iv n 0 r))) ([.ref h] : List Value).toArray s 0 0 (fun _ => False) := ⟨_, rfl⟩
  rw [← hQ]
  have hl := lv_entry ([.ref h]) (n := 4) (Nat.le_of_ble_eq_true rfl)
  rw [lg_entry_eq]
  generalize (lg_sl ([.ref h]) ++ List.replicate (4 - (lg_sl ([.ref h])).length) Slot.unset).toArray = ls at hl ⊢
  have hl : lv_has ls 4 [(0, .ref h)] := hl
  show W p l e { frames := 0, cells := 0, slots := 0, locals := 0 } s m ([.ref h] : List Value).toArray below meth c s.heap [] 0 0 Q (F0 m 0 ls [])
  have hfn := pf_fac_le n
  have lp : ∀ (j a b : Nat) (ls : Array Slot), j ≤ n → a ≤ 5040 * (7 - j) → b < 5040 → pf_iv j a b = pf_iv n 0 r → lv_has ls 4 [(0, .ref h), (1, .int (nI a)), (2, .int (nI b)), (3, .int (dI j))] → W p l e { frames := 0, cells := 0, slots := 0, locals := 0 } s m ([.ref h] : List Value).toArray below meth c s.heap [] 0 0 Q (F0 m 14 ls []) := by
    intro j
    induction j with
    | zero =>
      intro a b ls h1 h2 h4 h3 hl
      have h3 : a = pf_iv n 0 r := h3
      refine lv_iload_n hx hb d_X_inversions_14 rfl (lv_at hl 3 rfl) ?_
      refine rw_dlt0 (tgt := 44) hx hb d_X_inversions_15 (by decide) ?_
      refine lv_iload_n hx hb d_X_inversions_44 rfl (lv_at hl 1 rfl) ?_
      refine rw_top (y := (nI (pf_iv n 0 r))) (by rw [h3]) ?_
      rw [hQ]
      exact W.iret (v := (nI (pf_iv n 0 r))) hx hb hr (fun t ht _ => ⟨rfl, ht⟩) (fun q h => by cases h) d_X_inversions_45
    | succ j ih =>
      intro a b ls h1 h2 h4 h3 hl
      rw [dI_succ] at hl
      have hf1 := pf_fac_pos j
      have hf2 := pf_fac_le j
      have hdv := Nat.div_le_self b (pf_fac j)
      have hrm := pf_iv_rest (j := j) (rest := b)
      refine lv_iload_n hx hb d_X_inversions_14 rfl (lv_at hl 3 rfl) ?_
      refine rw_dlt1 (tgt := 44) hx hb d_X_inversions_15 (by decide) (by omega) ?_
      refine lv_iload_n hx hb d_X_inversions_18 rfl (lv_at hl 1 rfl) ?_
      refine lv_iload_n hx hb d_X_inversions_19 rfl (lv_at hl 2 rfl) ?_
      refine lv_aload_n hx hb d_X_inversions_20 rfl (lv_at hl 0 rfl) ?_
      refine gf_X_7 hx hb ht hown hK hP 0 rfl d_X_inversions_21 ?_
      refine lv_iload_n hx hb d_X_inversions_24 rfl (lv_at hl 3 rfl) ?_
      refine rw_iald (v := (nI (pf_fac j))) hx hb hK hP 1 rfl (by omega) (by omega) (hff _ (by omega)) d_X_inversions_25 ?_
      refine rw_idiv (r := b / (pf_fac j)) hx hb d_X_inversions_26 (by omega) (by omega) (by omega) rfl ?_
      refine rw_iadd (r := a + (b / (pf_fac j))) hx hb d_X_inversions_27 rfl ?_
      refine lv_istore_n (lv' := [(1, .int (nI (a + (b / (pf_fac j))))), (0, .ref h), (2, .int (nI b)), (3, .int (nI j))]) hx hb d_X_inversions_28 rfl hl (by decide) rfl (fun ls hl => ?_)
      refine lv_iload_n hx hb d_X_inversions_29 rfl (lv_at hl 2 rfl) ?_
      refine lv_aload_n hx hb d_X_inversions_30 rfl (lv_at hl 1 rfl) ?_
      refine gf_X_7 hx hb ht hown hK hP 0 rfl d_X_inversions_31 ?_
      refine lv_iload_n hx hb d_X_inversions_34 rfl (lv_at hl 3 rfl) ?_
      refine rw_iald (v := (nI (pf_fac j))) hx hb hK hP 1 rfl (by omega) (by omega) (hff _ (by omega)) d_X_inversions_35 ?_
      refine rw_irem (r := b % (pf_fac j)) hx hb d_X_inversions_36 (by omega) (by omega) (by omega) rfl ?_
      refine lv_istore_n (lv' := [(2, .int (nI (b % (pf_fac j)))), (1, .int (nI (a + (b / (pf_fac j))))), (0, .ref h), (3, .int (nI j))]) hx hb d_X_inversions_37 rfl hl (by decide) rfl (fun ls hl => ?_)
      refine lv_iinc (v := (dI j)) (lv' := [(3, .int (dI j)), (2, .int (nI (b % (pf_fac j)))), (1, .int (nI (a + (b / (pf_fac j))))), (0, .ref h)]) hx hb d_X_inversions_38 hl (k := 3) rfl (dI_dec j) (by decide) rfl (fun ls hl => ?_)
      refine lv_goto (tgt := 14) hx hb d_X_inversions_41 (by decide) ?_
      exact ih (a + b / pf_fac j) (b % pf_fac j) ls (by omega) (by omega) hrm h3 (lv_sub hl [3, 2, 1, 0] rfl)
  refine lv_iconst (v := (nI 0)) hx hb d_X_inversions_0 (by decide) ?_
  refine lv_istore_n (lv' := [(1, .int (nI 0)), (0, .ref h)]) hx hb d_X_inversions_1 rfl hl (by decide) rfl (fun ls hl => ?_)
  refine lv_aload_n hx hb d_X_inversions_2 rfl (lv_at hl 1 rfl) ?_
  refine gf_X_20 hx hb ht hown hK hP 0 rfl d_X_inversions_3 ?_
  refine lv_istore_n (lv' := [(2, .int (nI r)), (1, .int (nI 0)), (0, .ref h)]) hx hb d_X_inversions_6 rfl hl (by decide) rfl (fun ls hl => ?_)
  refine lv_aload_n hx hb d_X_inversions_7 rfl (lv_at hl 2 rfl) ?_
  refine gf_X_16 hx hb ht hown hK hP 0 rfl d_X_inversions_8 ?_
  refine lv_iconst (v := (nI 1)) hx hb d_X_inversions_11 (by decide) ?_
  refine rw_isubD hx hb d_X_inversions_12 ?_
  refine lv_istore_n (lv' := [(3, .int (dI n)), (2, .int (nI r)), (1, .int (nI 0)), (0, .ref h)]) hx hb d_X_inversions_13 rfl hl (by decide) rfl (fun ls hl => ?_)
  exact lp n 0 r ls (Nat.le_refl n) (by omega) (by omega) rfl (lv_sub hl [3, 2, 1, 0] rfl)
end
section
/-! numbers for the second half of RankDesk -/
theorem pf_lt_e {w : Nat} : ∀ k j, (pf_lt w k).1 j < 8
  | 0, _ => by show 0 < 8; omega
  | k + 1, j => by
    rw [pf_lt]
    dsimp only [va_up]
    split
    · exact pf_dg_lt w k
    · exact pf_lt_e k j
theorem up_ok {fe : Nat → Int32} {E : Nat → Nat} {lo x many many2 : Nat} (h : ∀ j, j < many → fe j = nI (E j)) (h2 : ∀ j, j < many2 → j ≠ lo → j < many) : ∀ j, j < many2 → upd fe lo (nI x) j = nI (va_up E lo x j) := by
  intro j hj
  unfold upd va_up
  by_cases q : j = lo
  · rw [if_pos q, if_pos q]
  · rw [if_neg q, if_neg q]; exact h j (h2 j hj q)
/-- first one order's way, then another's, as a word -/
def pf_th (n w v : Nat) : Nat := pf_pk (fun k => pf_dg v (pf_dg w k)) n 0
theorem pf_pk_b {q : Nat → Nat} (hq : ∀ k, q k < 8) : ∀ (j a c : Nat), a < 2 ^ (3 * c) → pf_pk q j a < 2 ^ (3 * (c + j))
  | 0, _, _, h => h
  | j + 1, a, c, h => by
    have h1 := pf_pk_b hq j (8 * a + q j) (c + 1) (by
      have e : 2 ^ (3 * (c + 1)) = 8 * 2 ^ (3 * c) := by rw [show 3 * (c + 1) = 3 * c + 3 by omega, Nat.pow_add]; omega
      have := hq j
      omega)
    rw [show c + (j + 1) = c + 1 + j by omega]
    exact h1
theorem pf_th_lt {n w v : Nat} (hn : n ≤ 7) : pf_th n w v < 2 ^ 21 := by
  have h := pf_pk_b (q := fun k => pf_dg v (pf_dg w k)) (fun k => pf_dg_lt _ _) n 0 0 (by show 0 < 1; omega)
  exact Nat.lt_of_lt_of_le h (Nat.pow_le_pow_right (by decide) (by omega))
/-- RankDesk.powers: by doubling -/
def pf_pw (n : Nat) : Nat → Nat → Nat → Nat → Nat
  | 0, t, _, _ => t
  | f + 1, t, v, m => if m = 0 then t else pf_pw n f (if m % 2 = 1 then pf_th n t v else t) (pf_th n v v) (m / 2)
def zn_m (a : Int32) : Nat := a.toBitVec.toNat % 2 ^ 8
theorem zn_mm (a : Int32) : a &&& nI 255 = nI (zn_m a) := pk_and a 8 (by decide)
theorem zn_mlt (a : Int32) : zn_m a < 2 ^ 8 := Nat.mod_lt _ (by decide)
theorem pf_id_lt {n : Nat} (hn : n ≤ 7) : pf_pk (fun k => k) n 0 < 2 ^ 21 := by
  rcases (show n = 0 ∨ n = 1 ∨ n = 2 ∨ n = 3 ∨ n = 4 ∨ n = 5 ∨ n = 6 ∨ n = 7 by omega) with rfl | rfl | rfl | rfl | rfl | rfl | rfl | rfl <;> decide
end
section
/-! RankDesk: the second half -/
set_option maxHeartbeats 4000000 in
set_option maxRecDepth 100000 in
/-- RankDesk.exchanges -/
theorem c_X_exchanges (l : Launch) (D : va_G) (cA : ClassId) (sz h fa : Nat) (v1 : Value) (ff : Nat → Int32) (n r : Nat) (hn0 : 1 ≤ n) (hn : n ≤ 7) (hr0 : r < pf_fac n) (hff : ∀ k, k < 8 → ff k = nI (pf_fac k)) : Met l y_X_exchanges wz_X_exchanges { frames := 4, cells := 1, slots := 2, locals := 83 } (va_Pc [.ref h] (wd_M D cA sz [(h, .inr (0, [.ref fa, v1, .int (nI n), .int (nI r)])), (fa, .inl (cA, 8, .inl ff))])) (va_Qi (fun (r_ : Int32) (_ : Unit) => r_ = nI (n - (pf_et (pf_un n r) n).2)) (fun _ t => wd_T D cA (va_A [] sz) [] t) (va_A [] sz)) 1 2 (va_A [] sz) := by
  refine Met.ofW (cc := b_X_exchanges) (maxL := 5) (ret := (some .int)) (by decide) rfl ?_
  intro p e s m args below meth c s₁ B hml hv
  obtain ⟨rfl, hsz, hP, hK⟩ := hv
  have hx := B.exec
  have hb := B.bytes
  have hr := B.returns
  have hlocks := B.notSynchronized
  have hown : s.vm.findClass "RankDesk" = some m.cls := findClass_of_methodNamed B.named
  have ht : ∀ w ∈ lw_g, w.before ([.ref h] : List Value).toArray s = true := fun w hw => atoms_spec (ws := wz_X_exchanges) B.pre w (List.mem_cons_of_mem _ hw)
  subst hsz
  obtain ⟨A, hAe⟩ : ∃ A, A = va_A [] s.heap.size := ⟨_, rfl⟩
  rw [← hAe]
  have hA : ∀ q : Nat, s.heap.size ≤ q → A q := fun q h => by rw [hAe]; exact Or.inr h
  have hS : va_S A s.heap s.heap [] := va_S.rf
  have hPr0 : va_P D classes [(h, .inr (0, [.ref fa, v1, .int (nI n), .int (nI r)])), (fa, .inl (cA, 8, .inl ff))] s.heap := hP
  have hPr := hPr0
  have hP : va_P D classes [] s.heap := fun k q h => by simp at h
  have hD : va_D A [] := ⟨fun i j p q h => by simp at h, fun k q h => by simp at h⟩
  obtain ⟨Q, hQ⟩ : ∃ Q, Q = MQ below (va_Qi (fun (r_ : Int32) (_ : Unit) => r_ = nI (n - (pf_et (pf_un n r) n).2)) (fun _ t => wd_T D cA A [] t) A) ([.ref h] : List Value).toArray s 1 2 A := ⟨_, rfl⟩
  rw [← hQ]
  have hl := lv_entry ([.ref h]) (n := 5) (Nat.le_of_ble_eq_true rfl)
  rw [lg_entry_eq]
  generalize (lg_sl ([.ref h]) ++ List.replicate (5 - (lg_sl ([.ref h])).length) Slot.unset).toArray = ls at hl ⊢
  have hl : lv_has ls 5 [(0, .ref h)] := hl
  show W p l e { frames := 4, cells := 1, slots := 2, locals := 83 } s m ([.ref h] : List Value).toArray below meth c s.heap [] 0 0 Q (F0 m 0 ls [])
  have hwl := pu_lt hn0 hn hr0
  refine lv_aload_n hx hb d_X_exchanges_0 rfl (lv_at hl 0 rfl) ?_
  refine cl_r (D := D) (cA := cA) (wc := []) (wr := []) (w1 := fun _ q => [(q, .inr (1, [.int (nI n), .int (nI (pf_un n r))]))]) (rn_V (As := []) (rest := []) ⟨hx, hb, hml, hown, ht⟩ (c_X_order l D cA s.heap.size h fa v1 ff n r hn0 hn hr0 hff) mb_X_order tm_X_order ts_X_order tl_X_34 rfl rfl ⟨Nat.le_of_ble_eq_true rfl, Nat.le_of_ble_eq_true rfl⟩ (pr_V (q0 := 0) (ci := 0) (pr_M hPr hK [0, 1] rfl) hPr hK rfl rfl rfl) rfl hl.1 rfl (Nat.le_of_ble_eq_true rfl) d_X_exchanges_1 ⟨Nat.le_of_ble_eq_true rfl, Nat.le_of_ble_eq_true rfl⟩) hP hD hS hA [] [] rfl rfl (by decide) (by decide) (fun u_ q H locs hw hP hD hS => ?_)
  have hP : va_P D classes [(q, .inr (1, [.int (nI n), .int (nI (pf_un n r))]))] H := hP
  have hD : va_D A [(q, .inr (1, [.int (nI n), .int (nI (pf_un n r))]))] := hD
  have hPr := rd_keep hPr0 hS hAe
  refine W.widen (k := 1) (n := 2) (by omega) (by omega) ?_
  refine lv_astore_n (lv' := [(1, .ref q), (0, .ref h)]) hx hb d_X_exchanges_4 rfl hl (by decide) rfl (fun ls hl => ?_)
  refine lv_iconst (v := (nI 0)) hx hb d_X_exchanges_5 (by decide) ?_
  refine lv_istore_n (lv' := [(2, .int (nI 0)), (1, .ref q), (0, .ref h)]) hx hb d_X_exchanges_6 rfl hl (by decide) rfl (fun ls hl => ?_)
  refine lv_iconst (v := (nI 0)) hx hb d_X_exchanges_7 (by decide) ?_
  refine lv_istore_n (lv' := [(3, .int (nI 0)), (2, .int (nI 0)), (1, .ref q), (0, .ref h)]) hx hb d_X_exchanges_8 rfl hl (by decide) rfl (fun ls hl => ?_)
  refine lv_iconst (v := (nI 0)) hx hb d_X_exchanges_9 (by decide) ?_
  refine lv_istore (lv' := [(4, .int (nI 0)), (3, .int (nI 0)), (2, .int (nI 0)), (1, .ref q), (0, .ref h)]) hx hb d_X_exchanges_10 hl (by decide) rfl (fun ls hl => ?_)
  have lp : ∀ (t k : Nat) (ls : Array Slot), k + t = n → lv_has ls 5 [(0, .ref h), (1, .ref q), (2, .int (nI ((pf_et (pf_un n r) k).1))), (3, .int (nI ((pf_et (pf_un n r) k).2))), (4, .int (nI k))] → W p l e { frames := 4, cells := 1, slots := 2, locals := 83 } s m ([.ref h] : List Value).toArray below meth c H locs 1 2 Q (F0 m 12 ls []) := by
    intro t
    induction t with
    | zero =>
      intro k ls hk hl
      have hb2 := pf_et_b (w := pf_un n r) k (fun j hj => (pu_rg hn0 hn hr0 (show j < n by omega)).2.1)
      refine lv_iload hx hb d_X_exchanges_12 (lv_at hl 4 rfl) ?_
      refine lv_aload_n hx hb d_X_exchanges_14 rfl (lv_at hl 0 rfl) ?_
      refine gf_X_16 hx hb ht hown hK hPr 0 rfl d_X_exchanges_15 ?_
      refine rw_cge (tgt := 51) hx hb d_X_exchanges_18 (by decide) (by omega) (by omega) (fun c1 => ?_) (fun c1 => ?_)
      · refine lv_aload_n hx hb d_X_exchanges_51 rfl (lv_at hl 0 rfl) ?_
        refine gf_X_16 hx hb ht hown hK hPr 0 rfl d_X_exchanges_52 ?_
        refine lv_iload_n hx hb d_X_exchanges_55 rfl (lv_at hl 3 rfl) ?_
        refine rw_isub (r := n - (pf_et (pf_un n r) n).2) hx hb d_X_exchanges_56 (by rw [show k = n by omega] at hb2 ⊢; omega) ?_
        have hP9 := hP.sub (ws' := []) [] rfl
        have hD9 := hD.sub (ws' := []) [] (by decide) rfl
        rw [hQ]
        exact W.iret (v := (nI (n - (pf_et (pf_un n r) n).2))) hx hb hr (fun t ht hW => ⟨⟨(nI (n - (pf_et (pf_un n r) n).2)), (), rfl, rfl, by rw [ht]; exact hP9, va_K.moved hW.alike hK, hD9⟩, hS.F ht⟩) hS.2.2 d_X_exchanges_57
      · exact absurd c1 (by omega)
    | succ t ih =>
      intro k ls hk hl
      have hb2 := pf_et_b (w := pf_un n r) k (fun j hj => (pu_rg hn0 hn hr0 (show j < n by omega)).2.1)
      have hrg := pu_rg hn0 hn hr0 (show k < n by omega)
      refine lv_iload hx hb d_X_exchanges_12 (lv_at hl 4 rfl) ?_
      refine lv_aload_n hx hb d_X_exchanges_14 rfl (lv_at hl 0 rfl) ?_
      refine gf_X_16 hx hb ht hown hK hPr 0 rfl d_X_exchanges_15 ?_
      refine rw_cge (tgt := 51) hx hb d_X_exchanges_18 (by decide) (by omega) (by omega) (fun c1 => ?_) (fun c1 => ?_)
      · exact absurd c1 (by omega)
      · refine lv_iload_n hx hb d_X_exchanges_21 rfl (lv_at hl 2 rfl) ?_
        refine lv_iload hx hb d_X_exchanges_22 (lv_at hl 4 rfl) ?_
        refine rw_ishr (r := ((pf_et (pf_un n r) k).1) / 2 ^ k) hx hb d_X_exchanges_24 (by omega) (by omega) rfl ?_
        refine lv_iconst (v := (nI 1)) hx hb d_X_exchanges_25 (by decide) ?_
        refine rw_iand (r := (pf_et (pf_un n r) k).1 / 2 ^ k % 2) hx hb d_X_exchanges_26 (zn_b2 _) ?_
        refine lv_iconst (v := (nI 1)) hx hb d_X_exchanges_27 (by decide) ?_
        refine rw_cne (tgt := 34) hx hb d_X_exchanges_28 (by decide) (by omega) (by omega) (fun c2 => ?_) (fun c2 => ?_)
        · refine lv_aload_n hx hb d_X_exchanges_34 rfl (lv_at hl 1 rfl) ?_
          refine lv_iload hx hb d_X_exchanges_35 (lv_at hl 4 rfl) ?_
          refine lv_iload_n hx hb d_X_exchanges_37 rfl (lv_at hl 2 rfl) ?_
          refine rc_V (As := [.int (nI k), .int (nI ((pf_et (pf_un n r) k).1))]) (rest := []) ⟨hx, hb, hml, hown, ht⟩ (c_K_ring l D cA q (.int (nI n)) (pf_un n r) k (pf_et (pf_un n r) k).1 hwl (by omega) hb2.1 hrg.1) mb_K_ring tm_K_ring ts_K_ring tl_X_48 rfl rfl ⟨Nat.le_of_ble_eq_true rfl, Nat.le_of_ble_eq_true rfl⟩ (pr_V (q0 := 0) (ci := 1) (pr_R hP hK [0] rfl) hP hK rfl rfl rfl) rfl hl.1 rfl (Nat.le_of_ble_eq_true rfl) d_X_exchanges_38 ⟨Nat.le_of_ble_eq_true rfl, Nat.le_of_ble_eq_true rfl⟩ ?_
          refine lv_istore_n (lv' := [(2, .int (nI ((pf_et (pf_un n r) k).1 ||| (pf_rg (pf_un n r) 8 0 k).1))), (0, .ref h), (1, .ref q), (3, .int (nI ((pf_et (pf_un n r) k).2))), (4, .int (nI k))]) hx hb d_X_exchanges_41 rfl hl (by decide) rfl (fun ls hl => ?_)
          refine lv_iinc (v := (nI ((pf_et (pf_un n r) k).2 + 1))) (lv' := [(3, .int (nI ((pf_et (pf_un n r) k).2 + 1))), (2, .int (nI ((pf_et (pf_un n r) k).1 ||| (pf_rg (pf_un n r) 8 0 k).1))), (0, .ref h), (1, .ref q), (4, .int (nI k))]) hx hb d_X_exchanges_42 hl (k := 3) rfl (nI_add ((pf_et (pf_un n r) k).2) 1) (by decide) rfl (fun ls hl => ?_)
          refine lv_iinc (v := (nI (k + 1))) (lv' := [(4, .int (nI (k + 1))), (3, .int (nI ((pf_et (pf_un n r) k).2 + 1))), (2, .int (nI ((pf_et (pf_un n r) k).1 ||| (pf_rg (pf_un n r) 8 0 k).1))), (0, .ref h), (1, .ref q)]) hx hb d_X_exchanges_45 hl (k := 4) rfl (nI_add k 1) (by decide) rfl (fun ls hl => ?_)
          refine lv_goto (tgt := 12) hx hb d_X_exchanges_48 (by decide) ?_
          refine ih (k + 1) ls (by omega) ?_
          rw [show pf_et (pf_un n r) (k + 1) = ((pf_et (pf_un n r) k).1 ||| (pf_rg (pf_un n r) 8 0 k).1, (pf_et (pf_un n r) k).2 + 1) from if_neg c2]
          exact (lv_sub hl [3, 4, 2, 1, 0] rfl)
        · refine lv_goto (tgt := 45) hx hb d_X_exchanges_31 (by decide) ?_
          refine lv_iinc (v := (nI (k + 1))) (lv' := [(4, .int (nI (k + 1))), (0, .ref h), (1, .ref q), (2, .int (nI ((pf_et (pf_un n r) k).1))), (3, .int (nI ((pf_et (pf_un n r) k).2)))]) hx hb d_X_exchanges_45 hl (k := 4) rfl (nI_add k 1) (by decide) rfl (fun ls hl => ?_)
          refine lv_goto (tgt := 12) hx hb d_X_exchanges_48 (by decide) ?_
          refine ih (k + 1) ls (by omega) ?_
          rw [show pf_et (pf_un n r) (k + 1) = pf_et (pf_un n r) k from if_pos c2]
          exact (lv_sub hl [1, 2, 3, 4, 0] rfl)
  exact lp n 0 ls (by omega) (lv_sub hl [4, 3, 2, 1, 0] rfl)
set_option maxHeartbeats 4000000 in
set_option maxRecDepth 100000 in
/-- RankDesk.turns -/
theorem c_X_turns (l : Launch) (D : va_G) (cA : ClassId) (sz h fa : Nat) (v1 : Value) (ff : Nat → Int32) (n r : Nat) (hn0 : 1 ≤ n) (hn : n ≤ 7) (hr0 : r < pf_fac n) (hff : ∀ k, k < 8 → ff k = nI (pf_fac k)) : Met l y_X_turns wz_X_turns { frames := 9, cells := 1, slots := 2, locals := 189 } (va_Pc [.ref h] (wd_M D cA sz [(h, .inr (0, [.ref fa, v1, .int (nI n), .int (nI r)])), (fa, .inl (cA, 8, .inl ff))])) (va_Qi (fun (r_ : Int32) (_ : Unit) => r_ = nI (pf_tt (pf_un n r) n).2) (fun _ t => wd_T D cA (va_A [] sz) [] t) (va_A [] sz)) 1 2 (va_A [] sz) := by
  refine Met.ofW (cc := b_X_turns) (maxL := 7) (ret := (some .int)) (by decide) rfl ?_
  intro p e s m args below meth c s₁ B hml hv
  obtain ⟨rfl, hsz, hP, hK⟩ := hv
  have hx := B.exec
  have hb := B.bytes
  have hr := B.returns
  have hlocks := B.notSynchronized
  have hown : s.vm.findClass "RankDesk" = some m.cls := findClass_of_methodNamed B.named
  have ht : ∀ w ∈ lw_g, w.before ([.ref h] : List Value).toArray s = true := fun w hw => atoms_spec (ws := wz_X_turns) B.pre w (List.mem_cons_of_mem _ hw)
  subst hsz
  obtain ⟨A, hAe⟩ : ∃ A, A = va_A [] s.heap.size := ⟨_, rfl⟩
  rw [← hAe]
  have hA : ∀ q : Nat, s.heap.size ≤ q → A q := fun q h => by rw [hAe]; exact Or.inr h
  have hS : va_S A s.heap s.heap [] := va_S.rf
  have hPr0 : va_P D classes [(h, .inr (0, [.ref fa, v1, .int (nI n), .int (nI r)])), (fa, .inl (cA, 8, .inl ff))] s.heap := hP
  have hPr := hPr0
  have hP : va_P D classes [] s.heap := fun k q h => by simp at h
  have hD : va_D A [] := ⟨fun i j p q h => by simp at h, fun k q h => by simp at h⟩
  obtain ⟨Q, hQ⟩ : ∃ Q, Q = MQ below (va_Qi (fun (r_ : Int32) (_ : Unit) => r_ = nI (pf_tt (pf_un n r) n).2) (fun _ t => wd_T D cA A [] t) A) ([.ref h] : List Value).toArray s 1 2 A := ⟨_, rfl⟩
  rw [← hQ]
  have hl := lv_entry ([.ref h]) (n := 7) (Nat.le_of_ble_eq_true rfl)
  rw [lg_entry_eq]
  generalize (lg_sl ([.ref h]) ++ List.replicate (7 - (lg_sl ([.ref h])).length) Slot.unset).toArray = ls at hl ⊢
  have hl : lv_has ls 7 [(0, .ref h)] := hl
  show W p l e { frames := 9, cells := 1, slots := 2, locals := 189 } s m ([.ref h] : List Value).toArray below meth c s.heap [] 0 0 Q (F0 m 0 ls [])
  have hwl := pu_lt hn0 hn hr0
  refine lv_aload_n hx hb d_X_turns_0 rfl (lv_at hl 0 rfl) ?_
  refine cl_r (D := D) (cA := cA) (wc := []) (wr := []) (w1 := fun _ q => [(q, .inr (1, [.int (nI n), .int (nI (pf_un n r))]))]) (rn_V (As := []) (rest := []) ⟨hx, hb, hml, hown, ht⟩ (c_X_order l D cA s.heap.size h fa v1 ff n r hn0 hn hr0 hff) mb_X_order tm_X_order ts_X_order tl_X_34 rfl rfl ⟨Nat.le_of_ble_eq_true rfl, Nat.le_of_ble_eq_true rfl⟩ (pr_V (q0 := 0) (ci := 0) (pr_M hPr hK [0, 1] rfl) hPr hK rfl rfl rfl) rfl hl.1 rfl (Nat.le_of_ble_eq_true rfl) d_X_turns_1 ⟨Nat.le_of_ble_eq_true rfl, Nat.le_of_ble_eq_true rfl⟩) hP hD hS hA [] [] rfl rfl (by decide) (by decide) (fun u_ q H locs hw hP hD hS => ?_)
  have hP : va_P D classes [(q, .inr (1, [.int (nI n), .int (nI (pf_un n r))]))] H := hP
  have hD : va_D A [(q, .inr (1, [.int (nI n), .int (nI (pf_un n r))]))] := hD
  have hPr := rd_keep hPr0 hS hAe
  refine W.widen (k := 1) (n := 2) (by omega) (by omega) ?_
  refine lv_astore_n (lv' := [(1, .ref q), (0, .ref h)]) hx hb d_X_turns_4 rfl hl (by decide) rfl (fun ls hl => ?_)
  refine lv_iconst (v := (nI 0)) hx hb d_X_turns_5 (by decide) ?_
  refine lv_istore_n (lv' := [(2, .int (nI 0)), (1, .ref q), (0, .ref h)]) hx hb d_X_turns_6 rfl hl (by decide) rfl (fun ls hl => ?_)
  refine lv_iconst (v := (nI 1)) hx hb d_X_turns_7 (by decide) ?_
  refine lv_istore_n (lv' := [(3, .int (nI 1)), (2, .int (nI 0)), (1, .ref q), (0, .ref h)]) hx hb d_X_turns_8 rfl hl (by decide) rfl (fun ls hl => ?_)
  refine lv_iconst (v := (nI 0)) hx hb d_X_turns_9 (by decide) ?_
  refine lv_istore (lv' := [(4, .int (nI 0)), (3, .int (nI 1)), (2, .int (nI 0)), (1, .ref q), (0, .ref h)]) hx hb d_X_turns_10 hl (by decide) rfl (fun ls hl => ?_)
  have lp : ∀ (t k : Nat) (ls : Array Slot), k + t = n → lv_has ls 7 [(0, .ref h), (1, .ref q), (2, .int (nI ((pf_tt (pf_un n r) k).1))), (3, .int (nI ((pf_tt (pf_un n r) k).2))), (4, .int (nI k))] → W p l e { frames := 9, cells := 1, slots := 2, locals := 189 } s m ([.ref h] : List Value).toArray below meth c H locs 1 2 Q (F0 m 12 ls []) := by
    intro t
    induction t with
    | zero =>
      intro k ls hk hl
      refine lv_iload hx hb d_X_turns_12 (lv_at hl 4 rfl) ?_
      refine lv_aload_n hx hb d_X_turns_14 rfl (lv_at hl 0 rfl) ?_
      refine gf_X_16 hx hb ht hown hK hPr 0 rfl d_X_turns_15 ?_
      refine rw_cge (tgt := 76) hx hb d_X_turns_18 (by decide) (by omega) (by omega) (fun c1 => ?_) (fun c1 => ?_)
      · refine lv_iload_n hx hb d_X_turns_76 rfl (lv_at hl 3 rfl) ?_
        refine rw_top (y := (nI ((pf_tt (pf_un n r) n).2))) (by rw [show k = n by omega]) ?_
        have hP9 := hP.sub (ws' := []) [] rfl
        have hD9 := hD.sub (ws' := []) [] (by decide) rfl
        rw [hQ]
        exact W.iret (v := (nI ((pf_tt (pf_un n r) n).2))) hx hb hr (fun t ht hW => ⟨⟨(nI ((pf_tt (pf_un n r) n).2)), (), rfl, rfl, by rw [ht]; exact hP9, va_K.moved hW.alike hK, hD9⟩, hS.F ht⟩) hS.2.2 d_X_turns_77
      · exact absurd c1 (by omega)
    | succ t ih =>
      intro k ls hk hl
      have hrg := pu_rg hn0 hn hr0 (show k < n by omega)
      have htk := pu_tk hn0 hn hr0 (show k < n by omega)
      obtain ⟨⟨ha0, ha1, hm1⟩, htk⟩ := htk
      refine lv_iload hx hb d_X_turns_12 (lv_at hl 4 rfl) ?_
      refine lv_aload_n hx hb d_X_turns_14 rfl (lv_at hl 0 rfl) ?_
      refine gf_X_16 hx hb ht hown hK hPr 0 rfl d_X_turns_15 ?_
      refine rw_cge (tgt := 76) hx hb d_X_turns_18 (by decide) (by omega) (by omega) (fun c1 => ?_) (fun c1 => ?_)
      · exact absurd c1 (by omega)
      · refine lv_iload_n hx hb d_X_turns_21 rfl (lv_at hl 2 rfl) ?_
        refine lv_iload hx hb d_X_turns_22 (lv_at hl 4 rfl) ?_
        refine rw_ishr (r := ((pf_tt (pf_un n r) k).1) / 2 ^ k) hx hb d_X_turns_24 (by omega) (by omega) rfl ?_
        refine lv_iconst (v := (nI 1)) hx hb d_X_turns_25 (by decide) ?_
        refine rw_iand (r := (pf_tt (pf_un n r) k).1 / 2 ^ k % 2) hx hb d_X_turns_26 (zn_b2 _) ?_
        refine lv_iconst (v := (nI 1)) hx hb d_X_turns_27 (by decide) ?_
        refine rw_cne (tgt := 34) hx hb d_X_turns_28 (by decide) (by omega) (by omega) (fun c2 => ?_) (fun c2 => ?_)
        · obtain ⟨hle, hl0, hl8⟩ := htk.resolve_left c2
          have hwi : (pf_tt (pf_un n r) k).1 ||| (pf_rg (pf_un n r) 8 0 k).1 < 128 := Nat.or_lt_two_pow (n := 7) hm1 hrg.2.1
          have hg1 := Nat.gcd_pos_of_pos_left (pf_ln (pf_tt (pf_un n r) k).1 ((pf_tt (pf_un n r) k).1 ||| (pf_rg (pf_un n r) 8 0 k).1)) ha0
          have hg2 := Nat.gcd_le_left (pf_ln (pf_tt (pf_un n r) k).1 ((pf_tt (pf_un n r) k).1 ||| (pf_rg (pf_un n r) 8 0 k).1)) ha0
          have e1 : pf_tt (pf_un n r) (k + 1) = ((pf_tt (pf_un n r) k).1 ||| (pf_rg (pf_un n r) 8 0 k).1, (pf_tt (pf_un n r) k).2 / Nat.gcd (pf_tt (pf_un n r) k).2 (pf_ln (pf_tt (pf_un n r) k).1 ((pf_tt (pf_un n r) k).1 ||| (pf_rg (pf_un n r) 8 0 k).1)) * pf_ln (pf_tt (pf_un n r) k).1 ((pf_tt (pf_un n r) k).1 ||| (pf_rg (pf_un n r) 8 0 k).1)) := if_neg c2
          refine lv_aload_n hx hb d_X_turns_34 rfl (lv_at hl 1 rfl) ?_
          refine lv_iload hx hb d_X_turns_35 (lv_at hl 4 rfl) ?_
          refine lv_iload_n hx hb d_X_turns_37 rfl (lv_at hl 2 rfl) ?_
          refine rc_V (As := [.int (nI k), .int (nI ((pf_tt (pf_un n r) k).1))]) (rest := []) ⟨hx, hb, hml, hown, ht⟩ (c_K_ring l D cA q (.int (nI n)) (pf_un n r) k (pf_tt (pf_un n r) k).1 hwl (by omega) hm1 hrg.1) mb_K_ring tm_K_ring ts_K_ring tl_X_48 rfl rfl ⟨Nat.le_of_ble_eq_true rfl, Nat.le_of_ble_eq_true rfl⟩ (pr_V (q0 := 0) (ci := 1) (pr_R hP hK [0] rfl) hP hK rfl rfl rfl) rfl hl.1 rfl (Nat.le_of_ble_eq_true rfl) d_X_turns_38 ⟨Nat.le_of_ble_eq_true rfl, Nat.le_of_ble_eq_true rfl⟩ ?_
          refine lv_istore (lv' := [(5, .int (nI ((pf_tt (pf_un n r) k).1 ||| (pf_rg (pf_un n r) 8 0 k).1))), (0, .ref h), (1, .ref q), (2, .int (nI ((pf_tt (pf_un n r) k).1))), (3, .int (nI ((pf_tt (pf_un n r) k).2))), (4, .int (nI k))]) hx hb d_X_turns_41 hl (by decide) rfl (fun ls hl => ?_)
          refine lv_iload hx hb d_X_turns_43 (lv_at hl 0 rfl) ?_
          refine rc_S (As := [.int (nI ((pf_tt (pf_un n r) k).1 ||| (pf_rg (pf_un n r) 8 0 k).1))]) (rest := []) ⟨hx, hb, hml, hown, ht⟩ (c_I_bitCount l (nI ((pf_tt (pf_un n r) k).1 ||| (pf_rg (pf_un n r) 8 0 k).1))) mb_I_bitCount tt_I_bitCount tl_X_55 rfl rfl ⟨Nat.le_of_ble_eq_true rfl, Nat.le_of_ble_eq_true rfl⟩ ⟨fun _ _ _ _ q => q, fun _ _ _ => ⟨rfl, trivial⟩⟩ rfl hl.1 rfl (Nat.le_of_ble_eq_true rfl) d_X_turns_45 ⟨Nat.le_of_ble_eq_true rfl, Nat.le_of_ble_eq_true rfl⟩ ?_
          refine rw_top (y := nI (pf_pc ((pf_tt (pf_un n r) k).1 ||| (pf_rg (pf_un n r) 8 0 k).1))) (bc_ok _ hwi) ?_
          refine lv_iload_n hx hb d_X_turns_48 rfl (lv_at hl 3 rfl) ?_
          refine rc_S (As := [.int (nI ((pf_tt (pf_un n r) k).1))]) (rest := [.int (nI (pf_pc ((pf_tt (pf_un n r) k).1 ||| (pf_rg (pf_un n r) 8 0 k).1)))]) ⟨hx, hb, hml, hown, ht⟩ (c_I_bitCount l (nI (pf_tt (pf_un n r) k).1)) mb_I_bitCount tt_I_bitCount tl_X_55 rfl rfl ⟨Nat.le_of_ble_eq_true rfl, Nat.le_of_ble_eq_true rfl⟩ ⟨fun _ _ _ _ q => q, fun _ _ _ => ⟨rfl, trivial⟩⟩ rfl hl.1 rfl (Nat.le_of_ble_eq_true rfl) d_X_turns_49 ⟨Nat.le_of_ble_eq_true rfl, Nat.le_of_ble_eq_true rfl⟩ ?_
          refine rw_top (y := nI (pf_pc (pf_tt (pf_un n r) k).1)) (bc_ok _ hm1) ?_
          refine rw_isub (r := pf_ln (pf_tt (pf_un n r) k).1 ((pf_tt (pf_un n r) k).1 ||| (pf_rg (pf_un n r) 8 0 k).1)) hx hb d_X_turns_52 (Nat.sub_add_cancel hle).symm ?_
          refine lv_istore (lv' := [(6, .int (nI (pf_ln (pf_tt (pf_un n r) k).1 ((pf_tt (pf_un n r) k).1 ||| (pf_rg (pf_un n r) 8 0 k).1)))), (5, .int (nI ((pf_tt (pf_un n r) k).1 ||| (pf_rg (pf_un n r) 8 0 k).1))), (0, .ref h), (1, .ref q), (2, .int (nI ((pf_tt (pf_un n r) k).1))), (3, .int (nI ((pf_tt (pf_un n r) k).2))), (4, .int (nI k))]) hx hb d_X_turns_53 hl (by decide) rfl (fun ls hl => ?_)
          refine lv_iload_n hx hb d_X_turns_55 rfl (lv_at hl 5 rfl) ?_
          refine lv_iload_n hx hb d_X_turns_56 rfl (lv_at hl 5 rfl) ?_
          refine lv_iload hx hb d_X_turns_57 (lv_at hl 0 rfl) ?_
          refine rc_S (As := [.int (nI ((pf_tt (pf_un n r) k).2)), .int (nI (pf_ln (pf_tt (pf_un n r) k).1 ((pf_tt (pf_un n r) k).1 ||| (pf_rg (pf_un n r) 8 0 k).1)))]) (rest := [.int (nI ((pf_tt (pf_un n r) k).2))]) ⟨hx, hb, hml, hown, ht⟩ (c_X_divisor l 8 (by omega) (pf_tt (pf_un n r) k).2 (pf_ln (pf_tt (pf_un n r) k).1 ((pf_tt (pf_un n r) k).1 ||| (pf_rg (pf_un n r) 8 0 k).1)) (by omega) (by omega)) mb_X_divisor tt_X_divisor tl_X_52 rfl rfl ⟨Nat.le_of_ble_eq_true rfl, Nat.le_of_ble_eq_true rfl⟩ ⟨fun _ _ _ _ q => q, fun _ _ _ => ⟨rfl, trivial⟩⟩ rfl hl.1 rfl (Nat.le_of_ble_eq_true rfl) d_X_turns_59 ⟨Nat.le_of_ble_eq_true rfl, Nat.le_of_ble_eq_true rfl⟩ ?_
          refine rw_idiv (r := (pf_tt (pf_un n r) k).2 / Nat.gcd (pf_tt (pf_un n r) k).2 (pf_ln (pf_tt (pf_un n r) k).1 ((pf_tt (pf_un n r) k).1 ||| (pf_rg (pf_un n r) 8 0 k).1))) hx hb d_X_turns_62 (by omega) (by omega) (by omega) rfl ?_
          refine lv_iload hx hb d_X_turns_63 (lv_at hl 0 rfl) ?_
          refine rw_imul (r := (pf_tt (pf_un n r) (k + 1)).2) hx hb d_X_turns_65 (by rw [e1]) ?_
          refine lv_istore_n (lv' := [(3, .int (nI ((pf_tt (pf_un n r) (k + 1)).2))), (6, .int (nI (pf_ln (pf_tt (pf_un n r) k).1 ((pf_tt (pf_un n r) k).1 ||| (pf_rg (pf_un n r) 8 0 k).1)))), (5, .int (nI ((pf_tt (pf_un n r) k).1 ||| (pf_rg (pf_un n r) 8 0 k).1))), (0, .ref h), (1, .ref q), (2, .int (nI ((pf_tt (pf_un n r) k).1))), (4, .int (nI k))]) hx hb d_X_turns_66 rfl hl (by decide) rfl (fun ls hl => ?_)
          refine lv_iload hx hb d_X_turns_67 (lv_at hl 2 rfl) ?_
          refine lv_istore_n (lv' := [(2, .int (nI ((pf_tt (pf_un n r) k).1 ||| (pf_rg (pf_un n r) 8 0 k).1))), (3, .int (nI ((pf_tt (pf_un n r) (k + 1)).2))), (6, .int (nI (pf_ln (pf_tt (pf_un n r) k).1 ((pf_tt (pf_un n r) k).1 ||| (pf_rg (pf_un n r) 8 0 k).1)))), (5, .int (nI ((pf_tt (pf_un n r) k).1 ||| (pf_rg (pf_un n r) 8 0 k).1))), (0, .ref h), (1, .ref q), (4, .int (nI k))]) hx hb d_X_turns_69 rfl hl (by decide) rfl (fun ls hl => ?_)
          refine lv_iinc (v := (nI (k + 1))) (lv' := [(4, .int (nI (k + 1))), (2, .int (nI ((pf_tt (pf_un n r) k).1 ||| (pf_rg (pf_un n r) 8 0 k).1))), (3, .int (nI ((pf_tt (pf_un n r) (k + 1)).2))), (6, .int (nI (pf_ln (pf_tt (pf_un n r) k).1 ((pf_tt (pf_un n r) k).1 ||| (pf_rg (pf_un n r) 8 0 k).1)))), (5, .int (nI ((pf_tt (pf_un n r) k).1 ||| (pf_rg (pf_un n r) 8 0 k).1))), (0, .ref h), (1, .ref q)]) hx hb d_X_turns_70 hl (k := 6) rfl (nI_add k 1) (by decide) rfl (fun ls hl => ?_)
          refine lv_goto (tgt := 12) hx hb d_X_turns_73 (by decide) ?_
          refine ih (k + 1) ls (by omega) ?_
          rw [show (pf_tt (pf_un n r) (k + 1)).1 = (pf_tt (pf_un n r) k).1 ||| (pf_rg (pf_un n r) 8 0 k).1 from by rw [e1]]
          exact (lv_sub hl [5, 6, 1, 2, 0] rfl)
        · refine lv_goto (tgt := 70) hx hb d_X_turns_31 (by decide) ?_
          refine lv_iinc (v := (nI (k + 1))) (lv' := [(4, .int (nI (k + 1))), (0, .ref h), (1, .ref q), (2, .int (nI ((pf_tt (pf_un n r) k).1))), (3, .int (nI ((pf_tt (pf_un n r) k).2)))]) hx hb d_X_turns_70 hl (k := 4) rfl (nI_add k 1) (by decide) rfl (fun ls hl => ?_)
          refine lv_goto (tgt := 12) hx hb d_X_turns_73 (by decide) ?_
          refine ih (k + 1) ls (by omega) ?_
          rw [show pf_tt (pf_un n r) (k + 1) = pf_tt (pf_un n r) k from if_pos c2]
          exact (lv_sub hl [1, 2, 3, 4, 0] rfl)
  exact lp n 0 ls (by omega) (lv_sub hl [4, 3, 2, 1, 0] rfl)
set_option maxHeartbeats 4000000 in
set_option maxRecDepth 100000 in
/-- RankDesk.longest -/
theorem c_X_longest (l : Launch) (D : va_G) (cA : ClassId) (sz h fa ea : Nat) (ff fe : Nat → Int32) (n r : Nat) (hn0 : 1 ≤ n) (hn : n ≤ 7) (hr0 : r < pf_fac n) (hff : ∀ k, k < 8 → ff k = nI (pf_fac k)) : Met l y_X_longest wz_X_longest { frames := 4, cells := 1, slots := 2, locals := 83 } (va_Pc [.ref h] (wd_Z D cA sz [(h, .inr (0, [.ref fa, .ref ea, .int (nI n), .int (nI r)])), (fa, .inl (cA, 8, .inl ff)), (ea, .inl (cA, 7, .inl fe))])) (va_Qi (fun (r_ : Int32) (u : Nat → Int32) => r_ = nI (pf_lt (pf_un n r) n).2) (fun u t => wd_T D cA (va_A [(h, .inr (0, [.ref fa, .ref ea, .int (nI n), .int (nI r)])), (fa, .inl (cA, 8, .inl ff)), (ea, .inl (cA, 7, .inl fe))] sz) [(h, .inr (0, [.ref fa, .ref ea, .int (nI n), .int (nI r)])), (fa, .inl (cA, 8, .inl ff)), (ea, .inl (cA, 7, .inl u))] t) (va_A [(h, .inr (0, [.ref fa, .ref ea, .int (nI n), .int (nI r)])), (fa, .inl (cA, 8, .inl ff)), (ea, .inl (cA, 7, .inl fe))] sz)) 1 2 (va_A [(h, .inr (0, [.ref fa, .ref ea, .int (nI n), .int (nI r)])), (fa, .inl (cA, 8, .inl ff)), (ea, .inl (cA, 7, .inl fe))] sz) := by
  refine Met.ofW (cc := b_X_longest) (maxL := 8) (ret := (some .int)) (by decide) rfl ?_
  intro p e s m args below meth c s₁ B hml hv
  obtain ⟨rfl, hsz, hP, hK, hD0⟩ := hv
  have hx := B.exec
  have hb := B.bytes
  have hr := B.returns
  have hlocks := B.notSynchronized
  have hown : s.vm.findClass "RankDesk" = some m.cls := findClass_of_methodNamed B.named
  have ht : ∀ w ∈ lw_g, w.before ([.ref h] : List Value).toArray s = true := fun w hw => atoms_spec (ws := wz_X_longest) B.pre w (List.mem_cons_of_mem _ hw)
  subst hsz
  have hD := hD0.self (sz := s.heap.size)
  obtain ⟨A, hAe⟩ : ∃ A, A = va_A [(h, .inr (0, [.ref fa, .ref ea, .int (nI n), .int (nI r)])), (fa, .inl (cA, 8, .inl ff)), (ea, .inl (cA, 7, .inl fe))] s.heap.size := ⟨_, rfl⟩
  rw [← hAe] at hD ⊢
  have hA : ∀ q : Nat, s.heap.size ≤ q → A q := fun q h => by rw [hAe]; exact Or.inr h
  have hS : va_S A s.heap s.heap [] := va_S.rf
  have hP : va_P D classes [(h, .inr (0, [.ref fa, .ref ea, .int (nI n), .int (nI r)])), (fa, .inl (cA, 8, .inl ff)), (ea, .inl (cA, 7, .inl fe))] s.heap := hP
  obtain ⟨Q, hQ⟩ : ∃ Q, Q = MQ below (va_Qi (fun (r_ : Int32) (u : Nat → Int32) => r_ = nI (pf_lt (pf_un n r) n).2) (fun u t => wd_T D cA A [(h, .inr (0, [.ref fa, .ref ea, .int (nI n), .int (nI r)])), (fa, .inl (cA, 8, .inl ff)), (ea, .inl (cA, 7, .inl u))] t) A) ([.ref h] : List Value).toArray s 1 2 A := ⟨_, rfl⟩
  rw [← hQ]
  have hl := lv_entry ([.ref h]) (n := 8) (Nat.le_of_ble_eq_true rfl)
  rw [lg_entry_eq]
  generalize (lg_sl ([.ref h]) ++ List.replicate (8 - (lg_sl ([.ref h])).length) Slot.unset).toArray = ls at hl ⊢
  have hl : lv_has ls 8 [(0, .ref h)] := hl
  show W p l e { frames := 4, cells := 1, slots := 2, locals := 83 } s m ([.ref h] : List Value).toArray below meth c s.heap [] 0 0 Q (F0 m 0 ls [])
  have hwl := pu_lt hn0 hn hr0
  refine lv_aload_n hx hb d_X_longest_0 rfl (lv_at hl 0 rfl) ?_
  refine cl_r (D := D) (cA := cA) (wc := []) (wr := [(h, .inr (0, [.ref fa, .ref ea, .int (nI n), .int (nI r)])), (fa, .inl (cA, 8, .inl ff)), (ea, .inl (cA, 7, .inl fe))]) (w1 := fun _ q => [(q, .inr (1, [.int (nI n), .int (nI (pf_un n r))]))]) (rn_V (As := []) (rest := []) ⟨hx, hb, hml, hown, ht⟩ (c_X_order l D cA s.heap.size h fa (.ref ea) ff n r hn0 hn hr0 hff) mb_X_order tm_X_order ts_X_order tl_X_34 rfl rfl ⟨Nat.le_of_ble_eq_true rfl, Nat.le_of_ble_eq_true rfl⟩ (pr_V (q0 := 0) (ci := 0) (pr_M hP hK [0, 1] rfl) hP hK rfl rfl rfl) rfl hl.1 rfl (Nat.le_of_ble_eq_true rfl) d_X_longest_1 ⟨Nat.le_of_ble_eq_true rfl, Nat.le_of_ble_eq_true rfl⟩) hP hD hS hA [] [0, 1, 2] rfl rfl (by decide) (by decide) (fun u_ q H locs hw hP hD hS => ?_)
  have hP : va_P D classes [(h, .inr (0, [.ref fa, .ref ea, .int (nI n), .int (nI r)])), (fa, .inl (cA, 8, .inl ff)), (ea, .inl (cA, 7, .inl fe)), (q, .inr (1, [.int (nI n), .int (nI (pf_un n r))]))] H := hP
  have hD : va_D A [(h, .inr (0, [.ref fa, .ref ea, .int (nI n), .int (nI r)])), (fa, .inl (cA, 8, .inl ff)), (ea, .inl (cA, 7, .inl fe)), (q, .inr (1, [.int (nI n), .int (nI (pf_un n r))]))] := hD
  refine W.widen (k := 1) (n := 2) (by omega) (by omega) ?_
  refine lv_astore_n (lv' := [(1, .ref q), (0, .ref h)]) hx hb d_X_longest_4 rfl hl (by decide) rfl (fun ls hl => ?_)
  refine lv_iconst (v := (nI 0)) hx hb d_X_longest_5 (by decide) ?_
  refine lv_istore_n (lv' := [(2, .int (nI 0)), (1, .ref q), (0, .ref h)]) hx hb d_X_longest_6 rfl hl (by decide) rfl (fun ls hl => ?_)
  refine lv_iconst (v := (nI 0)) hx hb d_X_longest_7 (by decide) ?_
  refine lv_istore_n (lv' := [(3, .int (nI 0)), (2, .int (nI 0)), (1, .ref q), (0, .ref h)]) hx hb d_X_longest_8 rfl hl (by decide) rfl (fun ls hl => ?_)
  have lp : ∀ (t k : Nat) (fg : Nat → Int32) (H : Heap) (locs : List Loc) (ls : Array Slot), k + t = n → (∀ j, j < (pf_lt (pf_un n r) k).2 → fg j = nI ((pf_lt (pf_un n r) k).1 j)) → va_P D classes [(h, .inr (0, [.ref fa, .ref ea, .int (nI n), .int (nI r)])), (fa, .inl (cA, 8, .inl ff)), (ea, .inl (cA, 7, .inl fg)), (q, .inr (1, [.int (nI n), .int (nI (pf_un n r))]))] H → va_D A [(h, .inr (0, [.ref fa, .ref ea, .int (nI n), .int (nI r)])), (fa, .inl (cA, 8, .inl ff)), (ea, .inl (cA, 7, .inl fg)), (q, .inr (1, [.int (nI n), .int (nI (pf_un n r))]))] → va_S A s.heap H locs → lv_has ls 8 [(0, .ref h), (1, .ref q), (2, .int (nI ((pf_lt (pf_un n r) k).2))), (3, .int (nI k))] → W p l e { frames := 4, cells := 1, slots := 2, locals := 83 } s m ([.ref h] : List Value).toArray below meth c H locs 1 2 Q (F0 m 9 ls []) := by
    intro t
    induction t with
    | zero =>
      intro k fg H locs ls hk hfg hP hD hS hl
      have hmb := pf_lt_b (w := pf_un n r) k
      refine lv_iload_n hx hb d_X_longest_9 rfl (lv_at hl 3 rfl) ?_
      refine lv_aload_n hx hb d_X_longest_10 rfl (lv_at hl 0 rfl) ?_
      refine gf_X_16 hx hb ht hown hK hP 0 rfl d_X_longest_11 ?_
      refine rw_cge (tgt := 98) hx hb d_X_longest_14 (by decide) (by omega) (by omega) (fun c1 => ?_) (fun c1 => ?_)
      · refine lv_iload_n hx hb d_X_longest_98 rfl (lv_at hl 2 rfl) ?_
        refine rw_top (y := (nI ((pf_lt (pf_un n r) n).2))) (by rw [show k = n by omega]) ?_
        have hP9 := hP.sub (ws' := [(h, .inr (0, [.ref fa, .ref ea, .int (nI n), .int (nI r)])), (fa, .inl (cA, 8, .inl ff)), (ea, .inl (cA, 7, .inl fg))]) [0, 1, 2] rfl
        have hD9 := hD.sub (ws' := [(h, .inr (0, [.ref fa, .ref ea, .int (nI n), .int (nI r)])), (fa, .inl (cA, 8, .inl ff)), (ea, .inl (cA, 7, .inl fg))]) [0, 1, 2] (by decide) rfl
        rw [hQ]
        exact W.iret (v := (nI ((pf_lt (pf_un n r) n).2))) hx hb hr (fun t ht hW => ⟨⟨(nI ((pf_lt (pf_un n r) n).2)), fg, rfl, rfl, by rw [ht]; exact hP9, va_K.moved hW.alike hK, hD9⟩, hS.F ht⟩) hS.2.2 d_X_longest_99
      · exact absurd c1 (by omega)
    | succ t ih =>
      intro k fg H locs ls hk hfg hP hD hS hl
      have hmb := pf_lt_b (w := pf_un n r) k
      have hx8 := pf_dg_lt (pf_un n r) k
      have hlo := pf_bs_in (E := (pf_lt (pf_un n r) k).1) (x := pf_dg (pf_un n r) k) 8 0 (pf_lt (pf_un n r) k).2 (Nat.zero_le _)
      refine lv_iload_n hx hb d_X_longest_9 rfl (lv_at hl 3 rfl) ?_
      refine lv_aload_n hx hb d_X_longest_10 rfl (lv_at hl 0 rfl) ?_
      refine gf_X_16 hx hb ht hown hK hP 0 rfl d_X_longest_11 ?_
      refine rw_cge (tgt := 98) hx hb d_X_longest_14 (by decide) (by omega) (by omega) (fun c1 => ?_) (fun c1 => ?_)
      · exact absurd c1 (by omega)
      · refine lv_aload_n hx hb d_X_longest_17 rfl (lv_at hl 1 rfl) ?_
        refine lv_iload_n hx hb d_X_longest_18 rfl (lv_at hl 3 rfl) ?_
        refine rc_V (As := [.int (nI k)]) (rest := []) ⟨hx, hb, hml, hown, ht⟩ (c_K_at l D cA q (.int (nI n)) (pf_un n r) k hwl (by omega)) mb_K_at tm_K_at ts_K_at tl_X_45 rfl rfl ⟨Nat.le_of_ble_eq_true rfl, Nat.le_of_ble_eq_true rfl⟩ (pr_V (q0 := 3) (ci := 1) (pr_R hP hK [3] rfl) hP hK rfl rfl rfl) rfl hl.1 rfl (Nat.le_of_ble_eq_true rfl) d_X_longest_19 ⟨Nat.le_of_ble_eq_true rfl, Nat.le_of_ble_eq_true rfl⟩ ?_
        refine lv_istore (lv' := [(4, .int (nI (pf_dg (pf_un n r) k))), (0, .ref h), (1, .ref q), (2, .int (nI ((pf_lt (pf_un n r) k).2))), (3, .int (nI k))]) hx hb d_X_longest_22 hl (by decide) rfl (fun ls hl => ?_)
        refine lv_iconst (v := (nI 0)) hx hb d_X_longest_24 (by decide) ?_
        refine lv_istore (lv' := [(5, .int (nI 0)), (4, .int (nI (pf_dg (pf_un n r) k))), (0, .ref h), (1, .ref q), (2, .int (nI ((pf_lt (pf_un n r) k).2))), (3, .int (nI k))]) hx hb d_X_longest_25 hl (by decide) rfl (fun ls hl => ?_)
        refine lv_iload_n hx hb d_X_longest_27 rfl (lv_at hl 4 rfl) ?_
        refine lv_istore (lv' := [(6, .int (nI ((pf_lt (pf_un n r) k).2))), (5, .int (nI 0)), (4, .int (nI (pf_dg (pf_un n r) k))), (0, .ref h), (1, .ref q), (2, .int (nI ((pf_lt (pf_un n r) k).2))), (3, .int (nI k))]) hx hb d_X_longest_28 hl (by decide) rfl (fun ls hl => ?_)
        have ex : ∀ (_ : Unit) (ls : Array Slot), lv_has ls 8 [(0, .ref h), (1, .ref q), (2, .int (nI ((pf_lt (pf_un n r) k).2))), (3, .int (nI k)), (4, .int (nI (pf_dg (pf_un n r) k))), (5, .int (nI (pf_bs (pf_lt (pf_un n r) k).1 (pf_dg (pf_un n r) k) 8 0 (pf_lt (pf_un n r) k).2)))] → W p l e { frames := 4, cells := 1, slots := 2, locals := 83 } s m ([.ref h] : List Value).toArray below meth c H locs 1 2 Q (F0 m 74 ls []) := by
          intro _ ls hl
          refine lv_aload_n hx hb d_X_longest_74 rfl (lv_at hl 0 rfl) ?_
          refine gf_X_13 hx hb ht hown hK hP 0 rfl d_X_longest_75 ?_
          refine lv_iload hx hb d_X_longest_78 (lv_at hl 5 rfl) ?_
          refine lv_iload hx hb d_X_longest_80 (lv_at hl 4 rfl) ?_
          refine rw_iast (k := pf_bs (pf_lt (pf_un n r) k).1 (pf_dg (pf_un n r) k) 8 0 (pf_lt (pf_un n r) k).2) hx hb hK hP hD hS 2 rfl (by omega) (by omega) d_X_longest_82 (fun H locs hP hD hS => ?_)
          have hP : va_P D classes [(h, .inr (0, [.ref fa, .ref ea, .int (nI n), .int (nI r)])), (fa, .inl (cA, 8, .inl ff)), (ea, .inl (cA, 7, .inl (upd fg (pf_bs (pf_lt (pf_un n r) k).1 (pf_dg (pf_un n r) k) 8 0 (pf_lt (pf_un n r) k).2) ((nI (pf_dg (pf_un n r) k)))))), (q, .inr (1, [.int (nI n), .int (nI (pf_un n r))]))] H := hP
          have hD : va_D A [(h, .inr (0, [.ref fa, .ref ea, .int (nI n), .int (nI r)])), (fa, .inl (cA, 8, .inl ff)), (ea, .inl (cA, 7, .inl (upd fg (pf_bs (pf_lt (pf_un n r) k).1 (pf_dg (pf_un n r) k) 8 0 (pf_lt (pf_un n r) k).2) ((nI (pf_dg (pf_un n r) k)))))), (q, .inr (1, [.int (nI n), .int (nI (pf_un n r))]))] := hD
          refine lv_iload hx hb d_X_longest_83 (lv_at hl 5 rfl) ?_
          refine lv_iload_n hx hb d_X_longest_85 rfl (lv_at hl 2 rfl) ?_
          refine rw_cne (tgt := 92) hx hb d_X_longest_86 (by decide) (by omega) (by omega) (fun c3 => ?_) (fun c3 => ?_)
          · refine lv_iinc (v := (nI (k + 1))) (lv' := [(3, .int (nI (k + 1))), (0, .ref h), (1, .ref q), (2, .int (nI ((pf_lt (pf_un n r) k).2))), (4, .int (nI (pf_dg (pf_un n r) k))), (5, .int (nI (pf_bs (pf_lt (pf_un n r) k).1 (pf_dg (pf_un n r) k) 8 0 (pf_lt (pf_un n r) k).2)))]) hx hb d_X_longest_92 hl (k := 3) rfl (nI_add k 1) (by decide) rfl (fun ls hl => ?_)
            refine lv_goto (tgt := 9) hx hb d_X_longest_95 (by decide) ?_
            have e1 : (pf_lt (pf_un n r) (k + 1)).2 = (pf_lt (pf_un n r) k).2 := if_neg c3
            refine ih (k + 1) (upd fg (pf_bs (pf_lt (pf_un n r) k).1 (pf_dg (pf_un n r) k) 8 0 (pf_lt (pf_un n r) k).2) (nI (pf_dg (pf_un n r) k))) H locs ls (by omega) (up_ok hfg (fun j hj hne => by rw [e1] at hj; exact hj)) hP hD hS ?_
            rw [e1]
            exact (lv_sub hl [1, 2, 3, 0] rfl)
          · refine lv_iinc (v := (nI ((pf_lt (pf_un n r) k).2 + 1))) (lv' := [(2, .int (nI ((pf_lt (pf_un n r) k).2 + 1))), (0, .ref h), (1, .ref q), (3, .int (nI k)), (4, .int (nI (pf_dg (pf_un n r) k))), (5, .int (nI (pf_bs (pf_lt (pf_un n r) k).1 (pf_dg (pf_un n r) k) 8 0 (pf_lt (pf_un n r) k).2)))]) hx hb d_X_longest_89 hl (k := 2) rfl (nI_add ((pf_lt (pf_un n r) k).2) 1) (by decide) rfl (fun ls hl => ?_)
            refine lv_iinc (v := (nI (k + 1))) (lv' := [(3, .int (nI (k + 1))), (2, .int (nI ((pf_lt (pf_un n r) k).2 + 1))), (0, .ref h), (1, .ref q), (4, .int (nI (pf_dg (pf_un n r) k))), (5, .int (nI (pf_bs (pf_lt (pf_un n r) k).1 (pf_dg (pf_un n r) k) 8 0 (pf_lt (pf_un n r) k).2)))]) hx hb d_X_longest_92 hl (k := 3) rfl (nI_add k 1) (by decide) rfl (fun ls hl => ?_)
            refine lv_goto (tgt := 9) hx hb d_X_longest_95 (by decide) ?_
            have e1 : (pf_lt (pf_un n r) (k + 1)).2 = (pf_lt (pf_un n r) k).2 + 1 := if_pos c3
            refine ih (k + 1) (upd fg (pf_bs (pf_lt (pf_un n r) k).1 (pf_dg (pf_un n r) k) 8 0 (pf_lt (pf_un n r) k).2) (nI (pf_dg (pf_un n r) k))) H locs ls (by omega) (up_ok hfg (fun j hj hne => by rw [e1] at hj; rw [c3] at hne; omega)) hP hD hS ?_
            rw [e1]
            exact (lv_sub hl [2, 3, 1, 0] rfl)
        have lq : ∀ (f lo hi : Nat) (ls : Array Slot), lo ≤ hi → hi ≤ (pf_lt (pf_un n r) k).2 → hi - lo ≤ f → pf_bs (pf_lt (pf_un n r) k).1 (pf_dg (pf_un n r) k) f lo hi = pf_bs (pf_lt (pf_un n r) k).1 (pf_dg (pf_un n r) k) 8 0 (pf_lt (pf_un n r) k).2 → lv_has ls 8 [(0, .ref h), (1, .ref q), (2, .int (nI ((pf_lt (pf_un n r) k).2))), (3, .int (nI k)), (4, .int (nI (pf_dg (pf_un n r) k))), (5, .int (nI lo)), (6, .int (nI hi))] → W p l e { frames := 4, cells := 1, slots := 2, locals := 83 } s m ([.ref h] : List Value).toArray below meth c H locs 1 2 Q (F0 m 30 ls []) := by
          intro f
          induction f with
          | zero =>
            intro lo hi ls h1 h2 h3 h4 hl
            have h4 : lo = pf_bs (pf_lt (pf_un n r) k).1 (pf_dg (pf_un n r) k) 8 0 (pf_lt (pf_un n r) k).2 := h4
            refine lv_iload hx hb d_X_longest_30 (lv_at hl 5 rfl) ?_
            refine lv_iload hx hb d_X_longest_32 (lv_at hl 6 rfl) ?_
            refine rw_cge (tgt := 74) hx hb d_X_longest_34 (by decide) (by omega) (by omega) (fun c4 => ?_) (fun c4 => ?_)
            · rw [h4] at hl
              exact ex () ls (lv_sub hl [0, 1, 2, 3, 4, 5] rfl)
            · exact absurd c4 (by omega)
          | succ f ihf =>
            intro lo hi ls h1 h2 h3 h4 hl
            refine lv_iload hx hb d_X_longest_30 (lv_at hl 5 rfl) ?_
            refine lv_iload hx hb d_X_longest_32 (lv_at hl 6 rfl) ?_
            refine rw_cge (tgt := 74) hx hb d_X_longest_34 (by decide) (by omega) (by omega) (fun c4 => ?_) (fun c4 => ?_)
            · rw [pf_bs, if_neg (by omega)] at h4
              rw [h4] at hl
              exact ex () ls (lv_sub hl [0, 1, 2, 3, 4, 5] rfl)
            · rw [pf_bs, if_pos c4] at h4
              have he8 := pf_lt_e (w := pf_un n r) k ((lo + hi) / 2)
              refine lv_iload hx hb d_X_longest_37 (lv_at hl 5 rfl) ?_
              refine lv_iload hx hb d_X_longest_39 (lv_at hl 6 rfl) ?_
              refine rw_iadd (r := lo + hi) hx hb d_X_longest_41 rfl ?_
              refine lv_iconst (v := (nI 2)) hx hb d_X_longest_42 (by decide) ?_
              refine rw_idiv (r := (lo + hi) / 2) hx hb d_X_longest_43 (by omega) (by omega) (by omega) rfl ?_
              refine lv_istore (lv' := [(7, .int (nI ((lo + hi) / 2))), (0, .ref h), (1, .ref q), (2, .int (nI ((pf_lt (pf_un n r) k).2))), (3, .int (nI k)), (4, .int (nI (pf_dg (pf_un n r) k))), (5, .int (nI lo)), (6, .int (nI hi))]) hx hb d_X_longest_44 hl (by decide) rfl (fun ls hl => ?_)
              refine lv_aload_n hx hb d_X_longest_46 rfl (lv_at hl 1 rfl) ?_
              refine gf_X_13 hx hb ht hown hK hP 0 rfl d_X_longest_47 ?_
              refine lv_iload hx hb d_X_longest_50 (lv_at hl 0 rfl) ?_
              refine rw_iald (v := (nI ((pf_lt (pf_un n r) k).1 ((lo + hi) / 2)))) hx hb hK hP 2 rfl (by omega) (by omega) (hfg _ (by omega)) d_X_longest_52 ?_
              refine lv_iload hx hb d_X_longest_53 (lv_at hl 5 rfl) ?_
              refine rw_cge (tgt := 67) hx hb d_X_longest_55 (by decide) (by omega) (by omega) (fun c5 => ?_) (fun c5 => ?_)
              · rw [if_neg (by omega)] at h4
                refine lv_iload hx hb d_X_longest_67 (lv_at hl 0 rfl) ?_
                refine lv_istore (lv' := [(6, .int (nI ((lo + hi) / 2))), (7, .int (nI ((lo + hi) / 2))), (0, .ref h), (1, .ref q), (2, .int (nI ((pf_lt (pf_un n r) k).2))), (3, .int (nI k)), (4, .int (nI (pf_dg (pf_un n r) k))), (5, .int (nI lo))]) hx hb d_X_longest_69 hl (by decide) rfl (fun ls hl => ?_)
                refine lv_goto (tgt := 30) hx hb d_X_longest_71 (by decide) ?_
                exact ihf lo ((lo + hi) / 2) ls (by omega) (by omega) (by omega) h4 (lv_sub hl [2, 3, 4, 5, 6, 7, 0] rfl)
              · rw [if_pos c5] at h4
                refine lv_iload hx hb d_X_longest_58 (lv_at hl 0 rfl) ?_
                refine lv_iconst (v := (nI 1)) hx hb d_X_longest_60 (by decide) ?_
                refine rw_iadd (r := ((lo + hi) / 2) + 1) hx hb d_X_longest_61 rfl ?_
                refine lv_istore (lv' := [(5, .int (nI (((lo + hi) / 2) + 1))), (7, .int (nI ((lo + hi) / 2))), (0, .ref h), (1, .ref q), (2, .int (nI ((pf_lt (pf_un n r) k).2))), (3, .int (nI k)), (4, .int (nI (pf_dg (pf_un n r) k))), (6, .int (nI hi))]) hx hb d_X_longest_62 hl (by decide) rfl (fun ls hl => ?_)
                refine lv_goto (tgt := 71) hx hb d_X_longest_64 (by decide) ?_
                refine lv_goto (tgt := 30) hx hb d_X_longest_71 (by decide) ?_
                exact ihf ((lo + hi) / 2 + 1) hi ls (by omega) (by omega) (by omega) h4 (lv_sub hl [2, 3, 4, 5, 6, 0, 7] rfl)
        exact lq 8 0 (pf_lt (pf_un n r) k).2 ls (by omega) (by omega) (by omega) rfl (lv_sub hl [3, 4, 5, 6, 2, 1, 0] rfl)
  exact lp n 0 fe H locs ls (by omega) (fun j hj => absurd hj (Nat.not_lt_zero j)) hP hD hS (lv_sub hl [3, 2, 1, 0] rfl)
set_option maxHeartbeats 4000000 in
set_option maxRecDepth 100000 in
/-- RankDesk.powers -/
theorem c_X_powers (l : Launch) (D : va_G) (cA : ClassId) (sz h fa : Nat) (v1 : Value) (ff : Nat → Int32) (a : Int32) (n r : Nat) (hn0 : 1 ≤ n) (hn : n ≤ 7) (hr0 : r < pf_fac n) (hff : ∀ k, k < 8 → ff k = nI (pf_fac k)) : Met l y_X_powers wz_X_powers { frames := 4, cells := 18, slots := 36, locals := 83 } (va_Pc [.ref h, .int a] (wd_M D cA sz [(h, .inr (0, [.ref fa, v1, .int (nI n), .int (nI r)])), (fa, .inl (cA, 8, .inl ff))])) (va_Qi (fun (r_ : Int32) (_ : Unit) => r_ = nI (pf_pw n 8 (pf_pk (fun k => k) n 0) (pf_un n r) (zn_m a))) (fun _ t => wd_T D cA (va_A [] sz) [] t) (va_A [] sz)) 18 36 (va_A [] sz) := by
  refine Met.ofW (cc := b_X_powers) (maxL := 5) (ret := (some .int)) (by decide) rfl ?_
  intro p e s m args below meth c s₁ B hml hv
  obtain ⟨rfl, hsz, hP, hK⟩ := hv
  have hx := B.exec
  have hb := B.bytes
  have hr := B.returns
  have hlocks := B.notSynchronized
  have hown : s.vm.findClass "RankDesk" = some m.cls := findClass_of_methodNamed B.named
  have ht : ∀ w ∈ lw_g, w.before ([.ref h, .int a] : List Value).toArray s = true := fun w hw => atoms_spec (ws := wz_X_powers) B.pre w (List.mem_cons_of_mem _ hw)
  subst hsz
  obtain ⟨A, hAe⟩ : ∃ A, A = va_A [] s.heap.size := ⟨_, rfl⟩
  rw [← hAe]
  have hA : ∀ q : Nat, s.heap.size ≤ q → A q := fun q h => by rw [hAe]; exact Or.inr h
  have hS : va_S A s.heap s.heap [] := va_S.rf
  have hPr0 : va_P D classes [(h, .inr (0, [.ref fa, v1, .int (nI n), .int (nI r)])), (fa, .inl (cA, 8, .inl ff))] s.heap := hP
  have hPr := hPr0
  have hP : va_P D classes [] s.heap := fun k q h => by simp at h
  have hD : va_D A [] := ⟨fun i j p q h => by simp at h, fun k q h => by simp at h⟩
  obtain ⟨Q, hQ⟩ : ∃ Q, Q = MQ below (va_Qi (fun (r_ : Int32) (_ : Unit) => r_ = nI (pf_pw n 8 (pf_pk (fun k => k) n 0) (pf_un n r) (zn_m a))) (fun _ t => wd_T D cA A [] t) A) ([.ref h, .int a] : List Value).toArray s 18 36 A := ⟨_, rfl⟩
  rw [← hQ]
  have hl := lv_entry ([.ref h, .int a]) (n := 5) (Nat.le_of_ble_eq_true rfl)
  rw [lg_entry_eq]
  generalize (lg_sl ([.ref h, .int a]) ++ List.replicate (5 - (lg_sl ([.ref h, .int a])).length) Slot.unset).toArray = ls at hl ⊢
  have hl : lv_has ls 5 [(0, .ref h), (1, .int a)] := hl
  show W p l e { frames := 4, cells := 18, slots := 36, locals := 83 } s m ([.ref h, .int a] : List Value).toArray below meth c s.heap [] 0 0 Q (F0 m 0 ls [])
  have hwl := pu_lt hn0 hn hr0
  refine lv_aload_n hx hb d_X_powers_0 rfl (lv_at hl 0 rfl) ?_
  refine gf_X_16 hx hb ht hown hK hPr 0 rfl d_X_powers_1 ?_
  refine cl_r (D := D) (cA := cA) (wc := []) (wr := []) (w1 := fun _ q => [(q, .inr (1, [.int (nI n), .int (nI (pf_pk (fun k => k) n 0))]))]) (rn_S (As := [.int (nI n)]) (rest := []) ⟨hx, hb, hml, hown, ht⟩ (c_K_first l D cA s.heap.size n hn) mb_K_first tt_K_first tl_X_60 rfl rfl ⟨Nat.le_of_ble_eq_true rfl, Nat.le_of_ble_eq_true rfl⟩ (pr_M hPr hK [] rfl) rfl hl.1 rfl (Nat.le_of_ble_eq_true rfl) d_X_powers_4 ⟨Nat.le_of_ble_eq_true rfl, Nat.le_of_ble_eq_true rfl⟩) hP hD hS hA [] [] rfl rfl (by decide) (by decide) (fun u_ q H locs hw hP hD hS => ?_)
  have hP : va_P D classes [(q, .inr (1, [.int (nI n), .int (nI (pf_pk (fun k => k) n 0))]))] H := hP
  have hD : va_D A [(q, .inr (1, [.int (nI n), .int (nI (pf_pk (fun k => k) n 0))]))] := hD
  have hPr := rd_keep hPr0 hS hAe
  refine W.widen (k := 1) (n := 2) (by omega) (by omega) ?_
  refine lv_astore_n (lv' := [(2, .ref q), (0, .ref h), (1, .int a)]) hx hb d_X_powers_7 rfl hl (by decide) rfl (fun ls hl => ?_)
  refine lv_aload_n hx hb d_X_powers_8 rfl (lv_at hl 1 rfl) ?_
  refine cl_r (D := D) (cA := cA) (wc := []) (wr := [(q, .inr (1, [.int (nI n), .int (nI (pf_pk (fun k => k) n 0))]))]) (w1 := fun _ q2 => [(q2, .inr (1, [.int (nI n), .int (nI (pf_un n r))]))]) (rn_V (As := []) (rest := []) ⟨hx, hb, hml, hown, ht⟩ (c_X_order l D cA H.size h fa v1 ff n r hn0 hn hr0 hff) mb_X_order tm_X_order ts_X_order tl_X_34 rfl rfl ⟨Nat.le_of_ble_eq_true rfl, Nat.le_of_ble_eq_true rfl⟩ (pr_V (q0 := 0) (ci := 0) (pr_M hPr hK [0, 1] rfl) hPr hK rfl rfl rfl) rfl hl.1 rfl (Nat.le_of_ble_eq_true rfl) d_X_powers_9 ⟨Nat.le_of_ble_eq_true rfl, Nat.le_of_ble_eq_true rfl⟩) hP hD hS hA [] [0] rfl rfl (by decide) (by decide) (fun u_ q2 H locs hw hP hD hS => ?_)
  have hP : va_P D classes [(q, .inr (1, [.int (nI n), .int (nI (pf_pk (fun k => k) n 0))])), (q2, .inr (1, [.int (nI n), .int (nI (pf_un n r))]))] H := hP
  have hD : va_D A [(q, .inr (1, [.int (nI n), .int (nI (pf_pk (fun k => k) n 0))])), (q2, .inr (1, [.int (nI n), .int (nI (pf_un n r))]))] := hD
  have hPr := rd_keep hPr0 hS hAe
  refine W.widen (k := 2) (n := 4) (by omega) (by omega) ?_
  refine lv_astore_n (lv' := [(3, .ref q2), (2, .ref q), (0, .ref h), (1, .int a)]) hx hb d_X_powers_12 rfl hl (by decide) rfl (fun ls hl => ?_)
  refine lv_iload_n hx hb d_X_powers_13 rfl (lv_at hl 3 rfl) ?_
  refine lv_sipush (v := (nI 255)) hx hb d_X_powers_14 (by decide) ?_
  refine lv_iand hx hb d_X_powers_17 ?_
  refine rw_top (y := (nI (zn_m a))) (zn_mm a) ?_
  refine lv_istore (lv' := [(4, .int (nI (zn_m a))), (3, .ref q2), (2, .ref q), (0, .ref h), (1, .int a)]) hx hb d_X_powers_18 hl (by decide) rfl (fun ls hl => ?_)
  have lp : ∀ (f T V m0 x y : Nat) (H : Heap) (locs : List Loc) (ls : Array Slot), f ≤ 8 → m0 < 2 ^ f → T < 2 ^ 21 → V < 2 ^ 21 → pf_pw n f T V m0 = pf_pw n 8 (pf_pk (fun k => k) n 0) (pf_un n r) (zn_m a) → va_P D classes [(x, .inr (1, [.int (nI n), .int (nI T)])), (y, .inr (1, [.int (nI n), .int (nI V)]))] H → va_D A [(x, .inr (1, [.int (nI n), .int (nI T)])), (y, .inr (1, [.int (nI n), .int (nI V)]))] → va_S A s.heap H locs → lv_has ls 5 [(2, .ref x), (3, .ref y), (4, .int (nI m0))] → W p l e { frames := 4, cells := 18, slots := 36, locals := 83 } s m ([.ref h, .int a] : List Value).toArray below meth c H locs (2 + 2 * (8 - f)) (4 + 4 * (8 - f)) Q (F0 m 20 ls []) := by
    intro f
    induction f with
    | zero =>
      intro T V m0 x y H locs ls h1 h2 h3 h5 h4 hP hD hS hl
      have h4 : T = pf_pw n 8 (pf_pk (fun k => k) n 0) (pf_un n r) (zn_m a) := h4
      refine lv_iload hx hb d_X_powers_20 (lv_at hl 2 rfl) ?_
      refine rw_zeq (tgt := 54) hx hb d_X_powers_22 (by decide) (by omega) (fun c1 => ?_) (fun c1 => ?_)
      · refine lv_aload_n hx hb d_X_powers_54 rfl (lv_at hl 0 rfl) ?_
        refine rc_V (As := []) (rest := []) ⟨hx, hb, hml, hown, ht⟩ (c_K_packed l D cA x (.int (nI n)) (nI T)) mb_K_packed tm_K_packed ts_K_packed tl_X_68 rfl rfl ⟨Nat.le_of_ble_eq_true rfl, Nat.le_of_ble_eq_true rfl⟩ (pr_V (q0 := 0) (ci := 1) (pr_R hP hK [0] rfl) hP hK rfl rfl rfl) rfl hl.1 rfl (Nat.le_of_ble_eq_true rfl) d_X_powers_55 ⟨by show 2 + 2 * (8 - 0) ≤ 18; omega, by show 4 + 4 * (8 - 0) ≤ 36; omega⟩ ?_
        refine rw_top (y := (nI (pf_pw n 8 (pf_pk (fun k => k) n 0) (pf_un n r) (zn_m a)))) (by rw [h4]) ?_
        have hP9 := hP.sub (ws' := []) [] rfl
        have hD9 := hD.sub (ws' := []) [] (by decide) rfl
        refine W.widen (k := 18) (n := 36) (by omega) (by omega) ?_
        rw [hQ]
        exact W.iret (v := (nI (pf_pw n 8 (pf_pk (fun k => k) n 0) (pf_un n r) (zn_m a)))) hx hb hr (fun t ht hW => ⟨⟨(nI (pf_pw n 8 (pf_pk (fun k => k) n 0) (pf_un n r) (zn_m a))), (), rfl, rfl, by rw [ht]; exact hP9, va_K.moved hW.alike hK, hD9⟩, hS.F ht⟩) hS.2.2 d_X_powers_58
      · exact absurd h2 (by rw [Nat.pow_zero]; omega)
    | succ f ih =>
      intro T V m0 x y H locs ls h1 h2 h3 h5 h4 hP hD hS hl
      have h28 : 2 ^ (f + 1) ≤ 2 ^ 8 := Nat.pow_le_pow_right (by decide) (by omega)
      refine lv_iload hx hb d_X_powers_20 (lv_at hl 2 rfl) ?_
      refine rw_zeq (tgt := 54) hx hb d_X_powers_22 (by decide) (by omega) (fun c1 => ?_) (fun c1 => ?_)
      · rw [pf_pw, if_pos c1] at h4
        refine lv_aload_n hx hb d_X_powers_54 rfl (lv_at hl 0 rfl) ?_
        refine rc_V (As := []) (rest := []) ⟨hx, hb, hml, hown, ht⟩ (c_K_packed l D cA x (.int (nI n)) (nI T)) mb_K_packed tm_K_packed ts_K_packed tl_X_68 rfl rfl ⟨Nat.le_of_ble_eq_true rfl, Nat.le_of_ble_eq_true rfl⟩ (pr_V (q0 := 0) (ci := 1) (pr_R hP hK [0] rfl) hP hK rfl rfl rfl) rfl hl.1 rfl (Nat.le_of_ble_eq_true rfl) d_X_powers_55 ⟨by show 2 + 2 * (8 - (f + 1)) ≤ 18; omega, by show 4 + 4 * (8 - (f + 1)) ≤ 36; omega⟩ ?_
        refine rw_top (y := (nI (pf_pw n 8 (pf_pk (fun k => k) n 0) (pf_un n r) (zn_m a)))) (by rw [h4]) ?_
        have hP9 := hP.sub (ws' := []) [] rfl
        have hD9 := hD.sub (ws' := []) [] (by decide) rfl
        refine W.widen (k := 18) (n := 36) (by omega) (by omega) ?_
        rw [hQ]
        exact W.iret (v := (nI (pf_pw n 8 (pf_pk (fun k => k) n 0) (pf_un n r) (zn_m a)))) hx hb hr (fun t ht hW => ⟨⟨(nI (pf_pw n 8 (pf_pk (fun k => k) n 0) (pf_un n r) (zn_m a))), (), rfl, rfl, by rw [ht]; exact hP9, va_K.moved hW.alike hK, hD9⟩, hS.F ht⟩) hS.2.2 d_X_powers_58
      · rw [pf_pw, if_neg c1] at h4
        refine lv_iload hx hb d_X_powers_25 (lv_at hl 2 rfl) ?_
        refine lv_iconst (v := (nI 1)) hx hb d_X_powers_27 (by decide) ?_
        refine rw_iand (r := m0 % 2) hx hb d_X_powers_28 (zn_b2 _) ?_
        refine lv_iconst (v := (nI 1)) hx hb d_X_powers_29 (by decide) ?_
        refine rw_cne (tgt := 39) hx hb d_X_powers_30 (by decide) (by omega) (by omega) (fun c2 => ?_) (fun c2 => ?_)
        · rw [if_neg c2] at h4
          refine lv_aload_n hx hb d_X_powers_39 rfl (lv_at hl 1 rfl) ?_
          refine lv_aload_n hx hb d_X_powers_40 rfl (lv_at hl 1 rfl) ?_
          refine cl_r (D := D) (cA := cA) (wc := []) (wr := [(x, .inr (1, [.int (nI n), .int (nI T)])), (y, .inr (1, [.int (nI n), .int (nI V)]))]) (w1 := fun _ y2 => [(y2, .inr (1, [.int (nI n), .int (nI (pf_th n V V))]))]) (rn_V (As := [.ref y]) (rest := []) ⟨hx, hb, hml, hown, ht⟩ (c_K_then l D cA H.size y y n V V (.int (nI n)) hn h5 h5) mb_K_then tm_K_then ts_K_then tl_X_64 rfl rfl ⟨Nat.le_of_ble_eq_true rfl, Nat.le_of_ble_eq_true rfl⟩ (pr_V (q0 := 1) (ci := 1) (pr_M hP hK [1, 1] rfl) hP hK rfl rfl rfl) rfl hl.1 rfl (Nat.le_of_ble_eq_true rfl) d_X_powers_41 ⟨by show 2 + 2 * (8 - (f + 1)) + 1 ≤ 18; omega, by show 4 + 4 * (8 - (f + 1)) + 2 ≤ 36; omega⟩) hP hD hS hA [] [0, 1] rfl rfl (by decide) (by decide) (fun u_ y2 H locs hw hP hD hS => ?_)
          have hP : va_P D classes [(x, .inr (1, [.int (nI n), .int (nI T)])), (y, .inr (1, [.int (nI n), .int (nI V)])), (y2, .inr (1, [.int (nI n), .int (nI (pf_th n V V))]))] H := hP
          have hD : va_D A [(x, .inr (1, [.int (nI n), .int (nI T)])), (y, .inr (1, [.int (nI n), .int (nI V)])), (y2, .inr (1, [.int (nI n), .int (nI (pf_th n V V))]))] := hD
          refine W.widen (k := 2 + 2 * (8 - f)) (n := 4 + 4 * (8 - f)) (by omega) (by omega) ?_
          refine lv_astore_n (lv' := [(3, .ref y2), (2, .ref x), (4, .int (nI m0))]) hx hb d_X_powers_44 rfl hl (by decide) rfl (fun ls hl => ?_)
          refine lv_iload hx hb d_X_powers_45 (lv_at hl 2 rfl) ?_
          refine lv_iconst (v := (nI 1)) hx hb d_X_powers_47 (by decide) ?_
          refine rw_ishr (r := m0 / 2) hx hb d_X_powers_48 (by omega) (by omega) (by rw [Nat.pow_one]) ?_
          refine lv_istore (lv' := [(4, .int (nI (m0 / 2))), (3, .ref y2), (2, .ref x)]) hx hb d_X_powers_49 hl (by decide) rfl (fun ls hl => ?_)
          refine lv_goto (tgt := 20) hx hb d_X_powers_51 (by decide) ?_
          exact ih T (pf_th n V V) (m0 / 2) x y2 H locs ls (by omega) (by rw [Nat.pow_succ] at h2; omega) h3 (pf_th_lt hn) h4 (hP.sub [0, 2] rfl) (hD.sub [0, 2] (by decide) rfl) hS (lv_sub hl [2, 1, 0] rfl)
        · rw [if_pos c2] at h4
          refine lv_aload_n hx hb d_X_powers_33 rfl (lv_at hl 0 rfl) ?_
          refine lv_aload_n hx hb d_X_powers_34 rfl (lv_at hl 1 rfl) ?_
          refine cl_r (D := D) (cA := cA) (wc := []) (wr := [(x, .inr (1, [.int (nI n), .int (nI T)])), (y, .inr (1, [.int (nI n), .int (nI V)]))]) (w1 := fun _ x2 => [(x2, .inr (1, [.int (nI n), .int (nI (pf_th n T V))]))]) (rn_V (As := [.ref y]) (rest := []) ⟨hx, hb, hml, hown, ht⟩ (c_K_then l D cA H.size x y n T V (.int (nI n)) hn h3 h5) mb_K_then tm_K_then ts_K_then tl_X_64 rfl rfl ⟨Nat.le_of_ble_eq_true rfl, Nat.le_of_ble_eq_true rfl⟩ (pr_V (q0 := 0) (ci := 1) (pr_M hP hK [0, 1] rfl) hP hK rfl rfl rfl) rfl hl.1 rfl (Nat.le_of_ble_eq_true rfl) d_X_powers_35 ⟨by show 2 + 2 * (8 - (f + 1)) + 1 ≤ 18; omega, by show 4 + 4 * (8 - (f + 1)) + 2 ≤ 36; omega⟩) hP hD hS hA [] [0, 1] rfl rfl (by decide) (by decide) (fun u_ x2 H locs hw hP hD hS => ?_)
          have hP : va_P D classes [(x, .inr (1, [.int (nI n), .int (nI T)])), (y, .inr (1, [.int (nI n), .int (nI V)])), (x2, .inr (1, [.int (nI n), .int (nI (pf_th n T V))]))] H := hP
          have hD : va_D A [(x, .inr (1, [.int (nI n), .int (nI T)])), (y, .inr (1, [.int (nI n), .int (nI V)])), (x2, .inr (1, [.int (nI n), .int (nI (pf_th n T V))]))] := hD
          refine W.widen (k := 2 + 2 * (8 - (f + 1)) + 1) (n := 4 + 4 * (8 - (f + 1)) + 2) (by omega) (by omega) ?_
          refine lv_astore_n (lv' := [(2, .ref x2), (3, .ref y), (4, .int (nI m0))]) hx hb d_X_powers_38 rfl hl (by decide) rfl (fun ls hl => ?_)
          refine lv_aload_n hx hb d_X_powers_39 rfl (lv_at hl 1 rfl) ?_
          refine lv_aload_n hx hb d_X_powers_40 rfl (lv_at hl 1 rfl) ?_
          refine cl_r (D := D) (cA := cA) (wc := []) (wr := [(x, .inr (1, [.int (nI n), .int (nI T)])), (y, .inr (1, [.int (nI n), .int (nI V)])), (x2, .inr (1, [.int (nI n), .int (nI (pf_th n T V))]))]) (w1 := fun _ y2 => [(y2, .inr (1, [.int (nI n), .int (nI (pf_th n V V))]))]) (rn_V (As := [.ref y]) (rest := []) ⟨hx, hb, hml, hown, ht⟩ (c_K_then l D cA H.size y y n V V (.int (nI n)) hn h5 h5) mb_K_then tm_K_then ts_K_then tl_X_64 rfl rfl ⟨Nat.le_of_ble_eq_true rfl, Nat.le_of_ble_eq_true rfl⟩ (pr_V (q0 := 1) (ci := 1) (pr_M hP hK [1, 1] rfl) hP hK rfl rfl rfl) rfl hl.1 rfl (Nat.le_of_ble_eq_true rfl) d_X_powers_41 ⟨by show 2 + 2 * (8 - (f + 1)) + 1 + 1 ≤ 18; omega, by show 4 + 4 * (8 - (f + 1)) + 2 + 2 ≤ 36; omega⟩) hP hD hS hA [] [0, 1, 2] rfl rfl (by decide) (by decide) (fun u_ y2 H locs hw hP hD hS => ?_)
          have hP : va_P D classes [(x, .inr (1, [.int (nI n), .int (nI T)])), (y, .inr (1, [.int (nI n), .int (nI V)])), (x2, .inr (1, [.int (nI n), .int (nI (pf_th n T V))])), (y2, .inr (1, [.int (nI n), .int (nI (pf_th n V V))]))] H := hP
          have hD : va_D A [(x, .inr (1, [.int (nI n), .int (nI T)])), (y, .inr (1, [.int (nI n), .int (nI V)])), (x2, .inr (1, [.int (nI n), .int (nI (pf_th n T V))])), (y2, .inr (1, [.int (nI n), .int (nI (pf_th n V V))]))] := hD
          refine W.widen (k := 2 + 2 * (8 - f)) (n := 4 + 4 * (8 - f)) (by omega) (by omega) ?_
          refine lv_astore_n (lv' := [(3, .ref y2), (2, .ref x2), (4, .int (nI m0))]) hx hb d_X_powers_44 rfl hl (by decide) rfl (fun ls hl => ?_)
          refine lv_iload hx hb d_X_powers_45 (lv_at hl 2 rfl) ?_
          refine lv_iconst (v := (nI 1)) hx hb d_X_powers_47 (by decide) ?_
          refine rw_ishr (r := m0 / 2) hx hb d_X_powers_48 (by omega) (by omega) (by rw [Nat.pow_one]) ?_
          refine lv_istore (lv' := [(4, .int (nI (m0 / 2))), (3, .ref y2), (2, .ref x2)]) hx hb d_X_powers_49 hl (by decide) rfl (fun ls hl => ?_)
          refine lv_goto (tgt := 20) hx hb d_X_powers_51 (by decide) ?_
          exact ih (pf_th n T V) (pf_th n V V) (m0 / 2) x2 y2 H locs ls (by omega) (by rw [Nat.pow_succ] at h2; omega) (pf_th_lt hn) (pf_th_lt hn) h4 (hP.sub [2, 3] rfl) (hD.sub [2, 3] (by decide) rfl) hS (lv_sub hl [2, 1, 0] rfl)
  exact lp 8 (pf_pk (fun k => k) n 0) (pf_un n r) (zn_m a) q q2 H locs ls (by omega) (zn_mlt a) (pf_id_lt hn) hwl rfl hP hD hS (lv_sub hl [2, 1, 0] rfl)
end
section
/-! numbers for RankDeskModel -/
theorem up_st {g : Nat → Int32} {E : Nat → Nat} {i : Nat} (h : ∀ j, j < i → g j = nI (E j)) : ∀ j, j < i + 1 → upd g i (nI (E i)) j = nI (E j) := by
  intro j hj
  unfold upd
  by_cases q : j = i
  · rw [if_pos q, q]
  · rw [if_neg q]; exact h j (by omega)
theorem pf_fac_s {i : Nat} (h1 : 1 ≤ i) (h7 : i ≤ 7) : pf_fac (i - 1) * i = pf_fac i := by
  rcases (show i = 1 ∨ i = 2 ∨ i = 3 ∨ i = 4 ∨ i = 5 ∨ i = 6 ∨ i = 7 by omega) with rfl | rfl | rfl | rfl | rfl | rfl | rfl <;> rfl
theorem sw_ok {n x y : Nat} {fp : Nat → Int32} {P : Nat → Nat} (h : ∀ k, k < n → fp k = nI (P k)) : ∀ k, k < n → upd (upd fp x (nI (P y))) y (nI (P x)) k = nI (pf_sw P x y k) := by
  intro k hk
  unfold upd pf_sw va_up
  by_cases q : k = y
  · rw [if_pos q, if_pos q]
  · rw [if_neg q, if_neg q]
    by_cases q2 : k = x
    · rw [if_pos q2, if_pos q2]
    · rw [if_neg q2, if_neg q2]; exact h k hk
theorem pf_sw_lt {P : Nat → Nat} {x y : Nat} (h : ∀ k, P k < 8) : ∀ k, pf_sw P x y k < 8 := by
  intro k
  unfold pf_sw va_up
  split
  · exact h x
  · split
    · exact h y
    · exact h k
theorem zn_n2 {n : Nat} (h : 1 ≤ n) : nI n - nI 2 = dI (n - 1) := by
  obtain ⟨j, rfl⟩ : ∃ j, n = j + 1 := ⟨n - 1, by omega⟩
  rw [show j + 1 - 1 = j by omega, dI, ← nI_add, Int32.sub_eq_add_neg, Int32.add_assoc, show nI 1 + -nI 2 = -1 from by decide, Int32.sub_eq_add_neg]
/-- the first order -/
theorem pu_id {n k : Nat} (hn0 : 1 ≤ n) (hn : n ≤ 7) (hk : k < n) : pf_dg (pf_un n 0) k = k := by
  have h : ∀ n, n < 8 → ∀ k, k < n → pf_dg (pf_un n 0) k = k := by decide +kernel
  exact h n (by omega) k hk
/-- a rank depends on the digits alone -/
theorem pf_rt_c {n w v : Nat} : ∀ k, (∀ j, j < k → pf_dg w j = pf_dg v j) → pf_rt n w k = pf_rt n v k
  | 0, _ => rfl
  | k + 1, h => by
    rw [pf_rt, pf_rt, pf_rt_c k (fun j hj => h j (by omega)), h k (by omega)]
theorem pu_same {n r c : Nat} (hn0 : 1 ≤ n) (hn : n ≤ 7) (hr : r < pf_fac n) (hc : c < pf_fac n) (h : ∀ j, j < n → pf_dg (pf_un n c) j = pf_dg (pf_un n r) j) : c = r := by
  rw [← pu_rk hn0 hn hr, ← pu_rk hn0 hn hc]
  exact congrArg Prod.snd (pf_rt_c n h)
theorem pf_upto_t {f : Nat → Bool} : ∀ n, (∀ x, x < n → f x = true) → pf_upto f n = true
  | 0, _ => rfl
  | n + 1, h => by rw [pf_upto, pf_upto_t n (fun x hx => h x (by omega)), h n (by omega)]; rfl
theorem pf_fj_in {P : Nat → Nat} {v : Nat} : ∀ k, pf_fj P v k ≤ k
  | 0 => Nat.le_refl _
  | k + 1 => by
    rw [pf_fj]
    split
    · have := pf_fj_in (P := P) (v := v) k; omega
    · exact Nat.le_refl _
theorem pf_fi_in {P : Nat → Nat} : ∀ k, pf_fi P k ≤ k
  | 0 => Nat.le_refl _
  | k + 1 => by
    rw [pf_fi]
    split
    · have := pf_fi_in (P := P) k; omega
    · exact Nat.le_refl _
theorem pf_ij_le {P : Nat → Nat} {i : Nat} : ∀ j, pf_ij P i j ≤ j
  | 0 => Nat.le_refl _
  | j + 1 => by
    have := pf_ij_le (P := P) (i := i) j
    rw [pf_ij]
    split <;> omega
theorem pf_io_le {P : Nat → Nat} : ∀ i, i ≤ 7 → pf_io P i ≤ 7 * i
  | 0, _ => Nat.le_refl _
  | i + 1, h => by
    have h1 := pf_io_le (P := P) i (by omega)
    have h2 := pf_ij_le (P := P) (i := i) i
    rw [pf_io]; omega
theorem pf_eo_le {P : Nat → Nat} : ∀ i, pf_eo P i ≤ i
  | 0 => Nat.le_refl _
  | i + 1 => by
    have := pf_eo_le (P := P) i
    rw [pf_eo]
    split <;> omega
end
section
/-! RankDeskModel: the first part -/
set_option maxHeartbeats 4000000 in
set_option maxRecDepth 100000 in
/-- RankDeskModel.size -/
theorem c_M_size (l : Launch) (D : va_G) (cA : ClassId) (sz h pa : Nat) (v2 v3 : Value) (fp : Nat → Int32) (v0 : Value) (a : Int32) : Met l y_M_size wz_M_size { frames := 0, cells := 0, slots := 0, locals := 0 } (va_Pc [.ref h, .int a] (wd_Z D cA sz [(h, .inr (2, [v0, .ref pa, v2, v3])), (pa, .inl (cA, 8, .inl fp))])) (va_Qv (fun (u : Nat → Int32) => ∀ k, k < 8 → u k = nI k) (fun u t => wd_T D cA (va_A [(h, .inr (2, [v0, .ref pa, v2, v3])), (pa, .inl (cA, 8, .inl fp))] sz) [(h, .inr (2, [.int (nI (1 + zn_pl a 7)), .ref pa, v2, v3])), (pa, .inl (cA, 8, .inl u))] t) (va_A [(h, .inr (2, [v0, .ref pa, v2, v3])), (pa, .inl (cA, 8, .inl fp))] sz)) 0 0 (va_A [(h, .inr (2, [v0, .ref pa, v2, v3])), (pa, .inl (cA, 8, .inl fp))] sz) := by
  refine Met.ofW (cc := b_M_size) (maxL := 3) (ret := none) (by decide) rfl ?_
  intro p e s m args below meth c s₁ B hml hv
  obtain ⟨rfl, hsz, hP, hK, hD0⟩ := hv
  have hx := B.exec
  have hb := B.bytes
  have hr := B.returns
  have hlocks := B.notSynchronized
  have hown : s.vm.findClass "RankDeskModel" = some m.cls := findClass_of_methodNamed B.named
  have ht : ∀ w ∈ lw_g, w.before ([.ref h, .int a] : List Value).toArray s = true := fun w hw => atoms_spec (ws := wz_M_size) B.pre w (List.mem_cons_of_mem _ hw)
  subst hsz
  have hD := hD0.self (sz := s.heap.size)
  obtain ⟨A, hAe⟩ : ∃ A, A = va_A [(h, .inr (2, [v0, .ref pa, v2, v3])), (pa, .inl (cA, 8, .inl fp))] s.heap.size := ⟨_, rfl⟩
  rw [← hAe] at hD ⊢
  have hA : ∀ q : Nat, s.heap.size ≤ q → A q := fun q h => by rw [hAe]; exact Or.inr h
  have hS : va_S A s.heap s.heap [] := va_S.rf
  have hP : va_P D classes [(h, .inr (2, [v0, .ref pa, v2, v3])), (pa, .inl (cA, 8, .inl fp))] s.heap := hP
  obtain ⟨Q, hQ⟩ : ∃ Q, Q = MQ below (va_Qv (fun (u : Nat → Int32) => ∀ k, k < 8 → u k = nI k) (fun u t => wd_T D cA A [(h, .inr (2, [.int (nI (1 + zn_pl a 7)), .ref pa, v2, v3])), (pa, .inl (cA, 8, .inl u))] t) A) ([.ref h, .int a] : List Value).toArray s 0 0 A := ⟨_, rfl⟩
  rw [← hQ]
  have hl := lv_entry ([.ref h, .int a]) (n := 3) (Nat.le_of_ble_eq_true rfl)
  rw [lg_entry_eq]
  generalize (lg_sl ([.ref h, .int a]) ++ List.replicate (3 - (lg_sl ([.ref h, .int a])).length) Slot.unset).toArray = ls at hl ⊢
  have hl : lv_has ls 3 [(0, .ref h), (1, .int a)] := hl
  show W p l e { frames := 0, cells := 0, slots := 0, locals := 0 } s m ([.ref h, .int a] : List Value).toArray below meth c s.heap [] 0 0 Q (F0 m 0 ls [])
  refine lv_aload_n hx hb d_M_size_0 rfl (lv_at hl 0 rfl) ?_
  refine lv_iconst (v := (nI 1)) hx hb d_M_size_1 (by decide) ?_
  refine lv_iload_n hx hb d_M_size_2 rfl (lv_at hl 1 rfl) ?_
  refine lv_ldc hx hb hown (ht _ tv_M_1) d_M_size_3 ?_
  refine lv_iand hx hb d_M_size_5 ?_
  refine rw_top (zn_max a) ?_
  refine lv_bipush (v := (nI 7)) hx hb d_M_size_6 (by decide) ?_
  refine rw_irem (r := zn_pl a 7) hx hb d_M_size_8 (by omega) (by omega) (by omega) rfl ?_
  refine rw_iadd (r := 1 + (zn_pl a 7)) hx hb d_M_size_9 rfl ?_
  refine pw_M_2 hx hb ht hown hK hP hD hS 0 rfl d_M_size_10 (fun H locs hP hD hS => ?_)
  have hP : va_P D classes [(h, .inr (2, [.int (nI (1 + (zn_pl a 7))), .ref pa, v2, v3])), (pa, .inl (cA, 8, .inl fp))] H := hP
  have hD : va_D A [(h, .inr (2, [.int (nI (1 + (zn_pl a 7))), .ref pa, v2, v3])), (pa, .inl (cA, 8, .inl fp))] := hD
  refine lv_iconst (v := (nI 0)) hx hb d_M_size_13 (by decide) ?_
  refine lv_istore_n (lv' := [(2, .int (nI 0)), (0, .ref h), (1, .int a)]) hx hb d_M_size_14 rfl hl (by decide) rfl (fun ls hl => ?_)
  have lp : ∀ (t i : Nat) (g : Nat → Int32) (H : Heap) (locs : List Loc) (ls : Array Slot), i + t = 8 → (∀ j, j < i → g j = nI j) → va_P D classes [(h, .inr (2, [.int (nI (1 + zn_pl a 7)), .ref pa, v2, v3])), (pa, .inl (cA, 8, .inl g))] H → va_D A [(h, .inr (2, [.int (nI (1 + zn_pl a 7)), .ref pa, v2, v3])), (pa, .inl (cA, 8, .inl g))] → va_S A s.heap H locs → lv_has ls 3 [(0, .ref h), (2, .int (nI i))] → W p l e { frames := 0, cells := 0, slots := 0, locals := 0 } s m ([.ref h, .int a] : List Value).toArray below meth c H locs 0 0 Q (F0 m 15 ls []) := by
    intro t
    induction t with
    | zero =>
      intro i g H locs ls hi hg hP hD hS hl
      refine lv_iload_n hx hb d_M_size_15 rfl (lv_at hl 1 rfl) ?_
      refine lv_bipush (v := (nI 8)) hx hb d_M_size_16 (by decide) ?_
      refine rw_cge (tgt := 34) hx hb d_M_size_18 (by decide) (by omega) (by omega) (fun c1 => ?_) (fun c1 => ?_)
      · have hP9 := hP.sub (ws' := [(h, .inr (2, [.int (nI (1 + zn_pl a 7)), .ref pa, v2, v3])), (pa, .inl (cA, 8, .inl g))]) [0, 1] rfl
        have hD9 := hD.sub (ws' := [(h, .inr (2, [.int (nI (1 + zn_pl a 7)), .ref pa, v2, v3])), (pa, .inl (cA, 8, .inl g))]) [0, 1] (by decide) rfl
        rw [hQ]
        exact W.vret hx hb hr (fun t ht hW => ⟨⟨g, rfl, fun k hk => hg k (by omega), by rw [ht]; exact hP9, va_K.moved hW.alike hK, hD9⟩, hS.F ht⟩) hS.2.2 d_M_size_34
      · exact absurd c1 (by omega)
    | succ t ih =>
      intro i g H locs ls hi hg hP hD hS hl
      refine lv_iload_n hx hb d_M_size_15 rfl (lv_at hl 1 rfl) ?_
      refine lv_bipush (v := (nI 8)) hx hb d_M_size_16 (by decide) ?_
      refine rw_cge (tgt := 34) hx hb d_M_size_18 (by decide) (by omega) (by omega) (fun c1 => ?_) (fun c1 => ?_)
      · exact absurd c1 (by omega)
      · refine lv_aload_n hx hb d_M_size_21 rfl (lv_at hl 0 rfl) ?_
        refine gf_M_8 hx hb ht hown hK hP 0 rfl d_M_size_22 ?_
        refine lv_iload_n hx hb d_M_size_25 rfl (lv_at hl 1 rfl) ?_
        refine lv_iload_n hx hb d_M_size_26 rfl (lv_at hl 1 rfl) ?_
        refine rw_iast (k := i) hx hb hK hP hD hS 1 rfl (by omega) (by omega) d_M_size_27 (fun H locs hP hD hS => ?_)
        have hP : va_P D classes [(h, .inr (2, [.int (nI (1 + zn_pl a 7)), .ref pa, v2, v3])), (pa, .inl (cA, 8, .inl (upd g i ((nI i)))))] H := hP
        have hD : va_D A [(h, .inr (2, [.int (nI (1 + zn_pl a 7)), .ref pa, v2, v3])), (pa, .inl (cA, 8, .inl (upd g i ((nI i)))))] := hD
        refine lv_iinc (v := (nI (i + 1))) (lv' := [(2, .int (nI (i + 1))), (0, .ref h)]) hx hb d_M_size_28 hl (k := 1) rfl (nI_add i 1) (by decide) rfl (fun ls hl => ?_)
        refine lv_goto (tgt := 15) hx hb d_M_size_31 (by decide) ?_
        exact ih (i + 1) (upd g i (nI i)) H locs ls (by omega) (up_st (E := fun j => j) hg) hP hD hS (lv_sub hl [1, 0] rfl)
  exact lp 8 0 fp H locs ls (by omega) (fun j hj => absurd hj (Nat.not_lt_zero j)) hP hD hS (lv_sub hl [1, 0] rfl)
set_option maxHeartbeats 4000000 in
set_option maxRecDepth 100000 in
/-- RankDeskModel() -/
theorem c_M_init (l : Launch) (D : va_G) (cA : ClassId) (sz h : Nat) (v0 : Value) : Met l y_M_init wz_M_init { frames := 1, cells := 3, slots := 24, locals := 22 } (va_Pc [.ref h] (wd_Z D cA sz [(h, .inr (2, [v0, .null, .null, .null]))])) (va_Qv (fun (u : Nat × Nat × Nat × (Nat → Int32)) => ∀ k, k < 8 → u.2.2.2 k = nI k) (fun u t => wd_T D cA (va_A [(h, .inr (2, [v0, .null, .null, .null]))] sz) [(h, .inr (2, [.int (nI 4), .ref u.1, .ref u.2.1, .ref u.2.2.1])), (u.1, .inl (cA, 8, .inl u.2.2.2)), (u.2.1, .inl (cA, 8, .inl (fun _ => 0))), (u.2.2.1, .inl (cA, 8, .inl (fun _ => 0)))] t) (va_A [(h, .inr (2, [v0, .null, .null, .null]))] sz)) 3 24 (va_A [(h, .inr (2, [v0, .null, .null, .null]))] sz) := by
  refine Met.ofW (cc := b_M_init) (maxL := 1) (ret := none) (by decide) rfl ?_
  intro p e s m args below meth c s₁ B hml hv
  obtain ⟨rfl, hsz, hP, hK, hD0⟩ := hv
  have hx := B.exec
  have hb := B.bytes
  have hr := B.returns
  have hlocks := B.notSynchronized
  have hown : s.vm.findClass "RankDeskModel" = some m.cls := findClass_of_methodNamed B.named
  have ht : ∀ w ∈ lw_g, w.before ([.ref h] : List Value).toArray s = true := fun w hw => atoms_spec (ws := wz_M_init) B.pre w (List.mem_cons_of_mem _ hw)
  have hin : meth.name = "<init>" := (name_of_methodNamed B.named B.method).1
  subst hsz
  have hD := hD0.self (sz := s.heap.size)
  obtain ⟨A, hAe⟩ : ∃ A, A = va_A [(h, .inr (2, [v0, .null, .null, .null]))] s.heap.size := ⟨_, rfl⟩
  rw [← hAe] at hD ⊢
  have hA : ∀ q : Nat, s.heap.size ≤ q → A q := fun q h => by rw [hAe]; exact Or.inr h
  have hS : va_S A s.heap s.heap [] := va_S.rf
  have hP : va_P D classes [(h, .inr (2, [v0, .null, .null, .null]))] s.heap := hP
  obtain ⟨Q, hQ⟩ : ∃ Q, Q = MQ below (va_Qv (fun (u : Nat × Nat × Nat × (Nat → Int32)) => ∀ k, k < 8 → u.2.2.2 k = nI k) (fun u t => wd_T D cA A [(h, .inr (2, [.int (nI 4), .ref u.1, .ref u.2.1, .ref u.2.2.1])), (u.1, .inl (cA, 8, .inl u.2.2.2)), (u.2.1, .inl (cA, 8, .inl (fun _ => 0))), (u.2.2.1, .inl (cA, 8, .inl (fun _ => 0)))] t) A) ([.ref h] : List Value).toArray s 3 24 A := ⟨_, rfl⟩
  rw [← hQ]
  have hl := lv_entry ([.ref h]) (n := 1) (Nat.le_of_ble_eq_true rfl)
  rw [lg_entry_eq]
  generalize (lg_sl ([.ref h]) ++ List.replicate (1 - (lg_sl ([.ref h])).length) Slot.unset).toArray = ls at hl ⊢
  have hl : lv_has ls 1 [(0, .ref h)] := hl
  show W p l e { frames := 1, cells := 3, slots := 24, locals := 22 } s m ([.ref h] : List Value).toArray below meth c s.heap [] 0 0 Q (F0 m 0 ls [])
  refine lv_aload_n hx hb d_M_init_0 rfl (lv_at hl 0 rfl) ?_
  refine W.objInit hx hb hown (ht _ tl_M_12) (ht _ tm_O_init) (ht _ to_code) rfl (by rw [hml]; exact hl.1) rfl d_M_init_1 (Nat.le_of_ble_eq_true rfl) (Nat.le_of_ble_eq_true rfl) ?_
  refine W.eq (g2 := F0 m 4 ls []) rfl ?_
  refine lv_aload_n hx hb d_M_init_4 rfl (lv_at hl 0 rfl) ?_
  refine lv_iconst (v := (nI 4)) hx hb d_M_init_5 (by decide) ?_
  refine pw_M_2 hx hb ht hown hK hP hD hS 0 rfl d_M_init_6 (fun H locs hP hD hS => ?_)
  have hP : va_P D classes [(h, .inr (2, [.int (nI 4), .null, .null, .null]))] H := hP
  have hD : va_D A [(h, .inr (2, [.int (nI 4), .null, .null, .null]))] := hD
  refine lv_aload_n hx hb d_M_init_9 rfl (lv_at hl 0 rfl) ?_
  refine lv_bipush (v := (nI 8)) hx hb d_M_init_10 (by decide) ?_
  refine rw_newa hx hb ht hK hP hD hS hA (by omega) (Nat.le_of_ble_eq_true rfl) (Nat.le_of_ble_eq_true rfl) d_M_init_12 (fun pa H hP hD hS => ?_)
  have hP : va_P D classes [(h, .inr (2, [.int (nI 4), .null, .null, .null])), (pa, .inl (cA, 8, .inl (fun _ => 0)))] H := hP
  have hD : va_D A [(h, .inr (2, [.int (nI 4), .null, .null, .null])), (pa, .inl (cA, 8, .inl (fun _ => 0)))] := hD
  refine W.widen (k := 1) (n := 8) (by omega) (by omega) ?_
  refine pw_M_8 hx hb ht hown hK hP hD hS hin 0 rfl d_M_init_14 (fun H locs hP hD hS => ?_)
  have hP : va_P D classes [(h, .inr (2, [.int (nI 4), .ref pa, .null, .null])), (pa, .inl (cA, 8, .inl (fun _ => 0)))] H := hP
  have hD : va_D A [(h, .inr (2, [.int (nI 4), .ref pa, .null, .null])), (pa, .inl (cA, 8, .inl (fun _ => 0)))] := hD
  refine lv_aload_n hx hb d_M_init_17 rfl (lv_at hl 0 rfl) ?_
  refine lv_bipush (v := (nI 8)) hx hb d_M_init_18 (by decide) ?_
  refine rw_newa hx hb ht hK hP hD hS hA (by omega) (Nat.le_of_ble_eq_true rfl) (Nat.le_of_ble_eq_true rfl) d_M_init_20 (fun qa H hP hD hS => ?_)
  have hP : va_P D classes [(h, .inr (2, [.int (nI 4), .ref pa, .null, .null])), (pa, .inl (cA, 8, .inl (fun _ => 0))), (qa, .inl (cA, 8, .inl (fun _ => 0)))] H := hP
  have hD : va_D A [(h, .inr (2, [.int (nI 4), .ref pa, .null, .null])), (pa, .inl (cA, 8, .inl (fun _ => 0))), (qa, .inl (cA, 8, .inl (fun _ => 0)))] := hD
  refine W.widen (k := 2) (n := 16) (by omega) (by omega) ?_
  refine pw_M_18 hx hb ht hown hK hP hD hS hin 0 rfl d_M_init_22 (fun H locs hP hD hS => ?_)
  have hP : va_P D classes [(h, .inr (2, [.int (nI 4), .ref pa, .ref qa, .null])), (pa, .inl (cA, 8, .inl (fun _ => 0))), (qa, .inl (cA, 8, .inl (fun _ => 0)))] H := hP
  have hD : va_D A [(h, .inr (2, [.int (nI 4), .ref pa, .ref qa, .null])), (pa, .inl (cA, 8, .inl (fun _ => 0))), (qa, .inl (cA, 8, .inl (fun _ => 0)))] := hD
  refine lv_aload_n hx hb d_M_init_25 rfl (lv_at hl 0 rfl) ?_
  refine lv_bipush (v := (nI 8)) hx hb d_M_init_26 (by decide) ?_
  refine rw_newa hx hb ht hK hP hD hS hA (by omega) (Nat.le_of_ble_eq_true rfl) (Nat.le_of_ble_eq_true rfl) d_M_init_28 (fun la H hP hD hS => ?_)
  have hP : va_P D classes [(h, .inr (2, [.int (nI 4), .ref pa, .ref qa, .null])), (pa, .inl (cA, 8, .inl (fun _ => 0))), (qa, .inl (cA, 8, .inl (fun _ => 0))), (la, .inl (cA, 8, .inl (fun _ => 0)))] H := hP
  have hD : va_D A [(h, .inr (2, [.int (nI 4), .ref pa, .ref qa, .null])), (pa, .inl (cA, 8, .inl (fun _ => 0))), (qa, .inl (cA, 8, .inl (fun _ => 0))), (la, .inl (cA, 8, .inl (fun _ => 0)))] := hD
  refine W.widen (k := 3) (n := 24) (by omega) (by omega) ?_
  refine pw_M_21 hx hb ht hown hK hP hD hS hin 0 rfl d_M_init_30 (fun H locs hP hD hS => ?_)
  have hP : va_P D classes [(h, .inr (2, [.int (nI 4), .ref pa, .ref qa, .ref la])), (pa, .inl (cA, 8, .inl (fun _ => 0))), (qa, .inl (cA, 8, .inl (fun _ => 0))), (la, .inl (cA, 8, .inl (fun _ => 0)))] H := hP
  have hD : va_D A [(h, .inr (2, [.int (nI 4), .ref pa, .ref qa, .ref la])), (pa, .inl (cA, 8, .inl (fun _ => 0))), (qa, .inl (cA, 8, .inl (fun _ => 0))), (la, .inl (cA, 8, .inl (fun _ => 0)))] := hD
  refine lv_aload_n hx hb d_M_init_33 rfl (lv_at hl 0 rfl) ?_
  refine lv_iconst (v := (nI 3)) hx hb d_M_init_34 (by decide) ?_
  refine cl_v (D := D) (cA := cA) (wc := [(h, .inr (2, [.int (nI 4), .ref pa, .ref qa, .ref la])), (pa, .inl (cA, 8, .inl (fun _ => 0)))]) (wr := [(qa, .inl (cA, 8, .inl (fun _ => 0))), (la, .inl (cA, 8, .inl (fun _ => 0)))]) (w1 := fun u => [(h, .inr (2, [.int (nI (1 + zn_pl (nI 3) 7)), .ref pa, .ref qa, .ref la])), (pa, .inl (cA, 8, .inl u))]) (rn_V (As := [.int (nI 3)]) (rest := []) ⟨hx, hb, hml, hown, ht⟩ (c_M_size l D cA H.size h pa (.ref qa) (.ref la) (fun _ => 0) (.int (nI 4)) (nI 3)) mb_M_size tm_M_size ts_M_size tl_M_24 rfl rfl ⟨Nat.le_of_ble_eq_true rfl, Nat.le_of_ble_eq_true rfl⟩ (pr_V (q0 := 0) (ci := 2) (pr_Z hP hK hD [0, 1] rfl (by decide) rfl) hP hK rfl rfl rfl) rfl hl.1 rfl (Nat.le_of_ble_eq_true rfl) d_M_init_35 ⟨Nat.le_of_ble_eq_true rfl, Nat.le_of_ble_eq_true rfl⟩) hP hD hS hA [0, 1] [2, 3] rfl rfl (by decide) (by decide) (fun u_ H locs hw hP hD hS => ?_)
  have hP : va_P D classes [(qa, .inl (cA, 8, .inl (fun _ => 0))), (la, .inl (cA, 8, .inl (fun _ => 0))), (h, .inr (2, [.int (nI 4), .ref pa, .ref qa, .ref la])), (pa, .inl (cA, 8, .inl u_))] H := hP
  have hD : va_D A [(qa, .inl (cA, 8, .inl (fun _ => 0))), (la, .inl (cA, 8, .inl (fun _ => 0))), (h, .inr (2, [.int (nI 4), .ref pa, .ref qa, .ref la])), (pa, .inl (cA, 8, .inl u_))] := hD
  have hP9 := hP.sub (ws' := [(h, .inr (2, [.int (nI 4), .ref pa, .ref qa, .ref la])), (pa, .inl (cA, 8, .inl u_)), (qa, .inl (cA, 8, .inl (fun _ => 0))), (la, .inl (cA, 8, .inl (fun _ => 0)))]) [2, 3, 0, 1] rfl
  have hD9 := hD.sub (ws' := [(h, .inr (2, [.int (nI 4), .ref pa, .ref qa, .ref la])), (pa, .inl (cA, 8, .inl u_)), (qa, .inl (cA, 8, .inl (fun _ => 0))), (la, .inl (cA, 8, .inl (fun _ => 0)))]) [2, 3, 0, 1] (by decide) rfl
  rw [hQ]
  exact W.vret hx hb hr (fun t ht hW => ⟨⟨(pa, qa, la, u_), rfl, hw, by rw [ht]; exact hP9, va_K.moved hW.alike hK, hD9⟩, hS.F ht⟩) hS.2.2 d_M_init_38
set_option maxHeartbeats 4000000 in
set_option maxRecDepth 100000 in
/-- RankDeskModel.orders -/
theorem c_M_orders (l : Launch) (D : va_G) (cA : ClassId) (h : Nat) (v1 v2 v3 : Value) (n : Nat) (hn0 : 1 ≤ n) (hn : n ≤ 7) : Met l y_M_orders wz_M_orders { frames := 0, cells := 0, slots := 0, locals := 0 } (va_Pc [.ref h] (wd_R D cA [(h, .inr (2, [.int (nI n), v1, v2, v3]))])) (QcRead (nI (pf_fac n))) 0 0 (fun _ => False) := by
  refine Met.ofW (cc := b_M_orders) (maxL := 3) (ret := (some .int)) (by decide) rfl ?_
  intro p e s m args below meth c s₁ B hml hv
  obtain ⟨rfl, hP, hK⟩ := hv
  have hx := B.exec
  have hb := B.bytes
  have hr := B.returns
  have hlocks := B.notSynchronized
  have hown : s.vm.findClass "RankDeskModel" = some m.cls := findClass_of_methodNamed B.named
  have ht : ∀ w ∈ lw_g, w.before ([.ref h] : List Value).toArray s = true := fun w hw => atoms_spec (ws := wz_M_orders) B.pre w (List.mem_cons_of_mem _ hw)
  obtain ⟨Q, hQ⟩ : ∃ Q, Q = MQ below (QcRead (nI (pf_fac n))) ([.ref h] : List Value).toArray s 0 0 (fun _ => False) := ⟨_, rfl⟩
  rw [← hQ]
  have hl := lv_entry ([.ref h]) (n := 3) (Nat.le_of_ble_eq_true rfl)
  rw [lg_entry_eq]
  generalize (lg_sl ([.ref h]) ++ List.replicate (3 - (lg_sl ([.ref h])).length) Slot.unset).toArray = ls at hl ⊢
  have hl : lv_has ls 3 [(0, .ref h)] := hl
  show W p l e { frames := 0, cells := 0, slots := 0, locals := 0 } s m ([.ref h] : List Value).toArray below meth c s.heap [] 0 0 Q (F0 m 0 ls [])
  have lp : ∀ (t i : Nat) (ls : Array Slot), i + t = n + 1 → 2 ≤ i → lv_has ls 3 [(0, .ref h), (1, .int (nI (pf_fac (i - 1)))), (2, .int (nI i))] → W p l e { frames := 0, cells := 0, slots := 0, locals := 0 } s m ([.ref h] : List Value).toArray below meth c s.heap [] 0 0 Q (F0 m 4 ls []) := by
    intro t
    induction t with
    | zero =>
      intro i ls hi h2 hl
      refine lv_iload_n hx hb d_M_orders_4 rfl (lv_at hl 2 rfl) ?_
      refine lv_aload_n hx hb d_M_orders_5 rfl (lv_at hl 0 rfl) ?_
      refine gf_M_2 hx hb ht hown hK hP 0 rfl d_M_orders_6 ?_
      refine rw_cgt (tgt := 22) hx hb d_M_orders_9 (by decide) (by omega) (by omega) (fun c1 => ?_) (fun c1 => ?_)
      · refine lv_iload_n hx hb d_M_orders_22 rfl (lv_at hl 1 rfl) ?_
        refine rw_top (y := (nI (pf_fac n))) (by rw [show i - 1 = n by omega]) ?_
        rw [hQ]
        exact W.iret (v := (nI (pf_fac n))) hx hb hr (fun t ht _ => ⟨rfl, ht⟩) (fun q h => by cases h) d_M_orders_23
      · exact absurd c1 (by omega)
    | succ t ih =>
      intro i ls hi h2 hl
      refine lv_iload_n hx hb d_M_orders_4 rfl (lv_at hl 2 rfl) ?_
      refine lv_aload_n hx hb d_M_orders_5 rfl (lv_at hl 0 rfl) ?_
      refine gf_M_2 hx hb ht hown hK hP 0 rfl d_M_orders_6 ?_
      refine rw_cgt (tgt := 22) hx hb d_M_orders_9 (by decide) (by omega) (by omega) (fun c1 => ?_) (fun c1 => ?_)
      · exact absurd c1 (by omega)
      · refine lv_iload_n hx hb d_M_orders_12 rfl (lv_at hl 1 rfl) ?_
        refine lv_iload_n hx hb d_M_orders_13 rfl (lv_at hl 2 rfl) ?_
        refine rw_imul (r := pf_fac (i + 1 - 1)) hx hb d_M_orders_14 (pf_fac_s (show 1 ≤ i by omega) (by omega)) ?_
        refine lv_istore_n (lv' := [(1, .int (nI (pf_fac (i + 1 - 1)))), (0, .ref h), (2, .int (nI i))]) hx hb d_M_orders_15 rfl hl (by decide) rfl (fun ls hl => ?_)
        refine lv_iinc (v := (nI (i + 1))) (lv' := [(2, .int (nI (i + 1))), (1, .int (nI (pf_fac (i + 1 - 1)))), (0, .ref h)]) hx hb d_M_orders_16 hl (k := 2) rfl (nI_add i 1) (by decide) rfl (fun ls hl => ?_)
        refine lv_goto (tgt := 4) hx hb d_M_orders_19 (by decide) ?_
        exact ih (i + 1) ls (by omega) (by omega) (lv_sub hl [2, 1, 0] rfl)
  refine lv_iconst (v := (nI 1)) hx hb d_M_orders_0 (by decide) ?_
  refine lv_istore_n (lv' := [(1, .int (nI 1)), (0, .ref h)]) hx hb d_M_orders_1 rfl hl (by decide) rfl (fun ls hl => ?_)
  refine lv_iconst (v := (nI 2)) hx hb d_M_orders_2 (by decide) ?_
  refine lv_istore_n (lv' := [(2, .int (nI 2)), (1, .int (nI 1)), (0, .ref h)]) hx hb d_M_orders_3 rfl hl (by decide) rfl (fun ls hl => ?_)
  exact lp (n - 1) 2 ls (by omega) (by omega) (lv_sub hl [2, 1, 0] rfl)
set_option maxHeartbeats 4000000 in
set_option maxRecDepth 100000 in
/-- RankDeskModel.swap -/
theorem c_M_swap (l : Launch) (D : va_G) (cA : ClassId) (sz h pa : Nat) (v2 v3 : Value) (fp : Nat → Int32) (P : Nat → Nat) (a b : Int32) (n : Nat) (hn0 : 1 ≤ n) (hn : n ≤ 7) (hfp : ∀ k, k < n → fp k = nI (P k)) : Met l y_M_swap wz_M_swap { frames := 0, cells := 0, slots := 0, locals := 0 } (va_Pc [.ref h, .int a, .int b] (wd_Z D cA sz [(h, .inr (2, [.int (nI n), .ref pa, v2, v3])), (pa, .inl (cA, 8, .inl fp))])) (va_Qi (fun (r_ : Int32) (u : Nat → Int32) => r_ = nI (pf_sb (zn_pl a n) (zn_pl b n)) ∧ ∀ k, k < n → u k = nI (pf_sw P (zn_pl a n) (zn_pl b n) k)) (fun u t => wd_T D cA (va_A [(h, .inr (2, [.int (nI n), .ref pa, v2, v3])), (pa, .inl (cA, 8, .inl fp))] sz) [(h, .inr (2, [.int (nI n), .ref pa, v2, v3])), (pa, .inl (cA, 8, .inl u))] t) (va_A [(h, .inr (2, [.int (nI n), .ref pa, v2, v3])), (pa, .inl (cA, 8, .inl fp))] sz)) 0 0 (va_A [(h, .inr (2, [.int (nI n), .ref pa, v2, v3])), (pa, .inl (cA, 8, .inl fp))] sz) := by
  refine Met.ofW (cc := b_M_swap) (maxL := 6) (ret := (some .boolean)) (by decide) rfl ?_
  intro p e s m args below meth c s₁ B hml hv
  obtain ⟨rfl, hsz, hP, hK, hD0⟩ := hv
  have hx := B.exec
  have hb := B.bytes
  have hr := B.returns
  have hlocks := B.notSynchronized
  have hown : s.vm.findClass "RankDeskModel" = some m.cls := findClass_of_methodNamed B.named
  have ht : ∀ w ∈ lw_g, w.before ([.ref h, .int a, .int b] : List Value).toArray s = true := fun w hw => atoms_spec (ws := wz_M_swap) B.pre w (List.mem_cons_of_mem _ hw)
  subst hsz
  have hD := hD0.self (sz := s.heap.size)
  obtain ⟨A, hAe⟩ : ∃ A, A = va_A [(h, .inr (2, [.int (nI n), .ref pa, v2, v3])), (pa, .inl (cA, 8, .inl fp))] s.heap.size := ⟨_, rfl⟩
  rw [← hAe] at hD ⊢
  have hA : ∀ q : Nat, s.heap.size ≤ q → A q := fun q h => by rw [hAe]; exact Or.inr h
  have hS : va_S A s.heap s.heap [] := va_S.rf
  have hP : va_P D classes [(h, .inr (2, [.int (nI n), .ref pa, v2, v3])), (pa, .inl (cA, 8, .inl fp))] s.heap := hP
  obtain ⟨Q, hQ⟩ : ∃ Q, Q = MQ below (va_Qi (fun (r_ : Int32) (u : Nat → Int32) => r_ = nI (pf_sb (zn_pl a n) (zn_pl b n)) ∧ ∀ k, k < n → u k = nI (pf_sw P (zn_pl a n) (zn_pl b n) k)) (fun u t => wd_T D cA A [(h, .inr (2, [.int (nI n), .ref pa, v2, v3])), (pa, .inl (cA, 8, .inl u))] t) A) ([.ref h, .int a, .int b] : List Value).toArray s 0 0 A := ⟨_, rfl⟩
  rw [← hQ]
  have hl := lv_entry ([.ref h, .int a, .int b]) (n := 6) (Nat.le_of_ble_eq_true rfl)
  rw [lg_entry_eq]
  generalize (lg_sl ([.ref h, .int a, .int b]) ++ List.replicate (6 - (lg_sl ([.ref h, .int a, .int b])).length) Slot.unset).toArray = ls at hl ⊢
  have hl : lv_has ls 6 [(0, .ref h), (1, .int a), (2, .int b)] := hl
  show W p l e { frames := 0, cells := 0, slots := 0, locals := 0 } s m ([.ref h, .int a, .int b] : List Value).toArray below meth c s.heap [] 0 0 Q (F0 m 0 ls [])
  have hpa := zn_plt a (show 0 < n by omega)
  have hpb := zn_plt b (show 0 < n by omega)
  refine lv_iload_n hx hb d_M_swap_0 rfl (lv_at hl 1 rfl) ?_
  refine lv_ldc hx hb hown (ht _ tv_M_1) d_M_swap_1 ?_
  refine lv_iand hx hb d_M_swap_3 ?_
  refine rw_top (zn_max a) ?_
  refine lv_aload_n hx hb d_M_swap_4 rfl (lv_at hl 0 rfl) ?_
  refine gf_M_2 hx hb ht hown hK hP 0 rfl d_M_swap_5 ?_
  refine rw_irem (r := zn_pl a n) hx hb d_M_swap_8 (by omega) (by omega) (by omega) rfl ?_
  refine lv_istore_n (lv' := [(3, .int (nI (zn_pl a n))), (0, .ref h), (1, .int a), (2, .int b)]) hx hb d_M_swap_9 rfl hl (by decide) rfl (fun ls hl => ?_)
  refine lv_iload_n hx hb d_M_swap_10 rfl (lv_at hl 3 rfl) ?_
  refine lv_ldc hx hb hown (ht _ tv_M_1) d_M_swap_11 ?_
  refine lv_iand hx hb d_M_swap_13 ?_
  refine rw_top (zn_max b) ?_
  refine lv_aload_n hx hb d_M_swap_14 rfl (lv_at hl 1 rfl) ?_
  refine gf_M_2 hx hb ht hown hK hP 0 rfl d_M_swap_15 ?_
  refine rw_irem (r := zn_pl b n) hx hb d_M_swap_18 (by omega) (by omega) (by omega) rfl ?_
  refine lv_istore (lv' := [(4, .int (nI (zn_pl b n))), (3, .int (nI (zn_pl a n))), (0, .ref h), (1, .int a), (2, .int b)]) hx hb d_M_swap_19 hl (by decide) rfl (fun ls hl => ?_)
  refine lv_aload_n hx hb d_M_swap_21 rfl (lv_at hl 2 rfl) ?_
  refine gf_M_8 hx hb ht hown hK hP 0 rfl d_M_swap_22 ?_
  refine lv_iload_n hx hb d_M_swap_25 rfl (lv_at hl 1 rfl) ?_
  refine rw_iald (v := (nI (P (zn_pl a n)))) hx hb hK hP 1 rfl (by omega) (by omega) (hfp _ hpa) d_M_swap_26 ?_
  refine lv_istore (lv' := [(5, .int (nI (P (zn_pl a n)))), (4, .int (nI (zn_pl b n))), (3, .int (nI (zn_pl a n))), (0, .ref h), (1, .int a), (2, .int b)]) hx hb d_M_swap_27 hl (by decide) rfl (fun ls hl => ?_)
  refine lv_aload_n hx hb d_M_swap_29 rfl (lv_at hl 3 rfl) ?_
  refine gf_M_8 hx hb ht hown hK hP 0 rfl d_M_swap_30 ?_
  refine lv_iload_n hx hb d_M_swap_33 rfl (lv_at hl 2 rfl) ?_
  refine lv_aload_n hx hb d_M_swap_34 rfl (lv_at hl 3 rfl) ?_
  refine gf_M_8 hx hb ht hown hK hP 0 rfl d_M_swap_35 ?_
  refine lv_iload hx hb d_M_swap_38 (lv_at hl 1 rfl) ?_
  refine rw_iald (v := (nI (P (zn_pl b n)))) hx hb hK hP 1 rfl (by omega) (by omega) (hfp _ hpb) d_M_swap_40 ?_
  refine rw_iast (k := zn_pl a n) hx hb hK hP hD hS 1 rfl (by omega) (by omega) d_M_swap_41 (fun H locs hP hD hS => ?_)
  have hP : va_P D classes [(h, .inr (2, [.int (nI n), .ref pa, v2, v3])), (pa, .inl (cA, 8, .inl (upd fp (zn_pl a n) ((nI (P (zn_pl b n)))))))] H := hP
  have hD : va_D A [(h, .inr (2, [.int (nI n), .ref pa, v2, v3])), (pa, .inl (cA, 8, .inl (upd fp (zn_pl a n) ((nI (P (zn_pl b n)))))))] := hD
  refine lv_aload_n hx hb d_M_swap_42 rfl (lv_at hl 3 rfl) ?_
  refine gf_M_8 hx hb ht hown hK hP 0 rfl d_M_swap_43 ?_
  refine lv_iload hx hb d_M_swap_46 (lv_at hl 1 rfl) ?_
  refine lv_iload hx hb d_M_swap_48 (lv_at hl 0 rfl) ?_
  refine rw_iast (k := zn_pl b n) hx hb hK hP hD hS 1 rfl (by omega) (by omega) d_M_swap_50 (fun H locs hP hD hS => ?_)
  have hP : va_P D classes [(h, .inr (2, [.int (nI n), .ref pa, v2, v3])), (pa, .inl (cA, 8, .inl (upd (upd fp (zn_pl a n) ((nI (P (zn_pl b n))))) (zn_pl b n) ((nI (P (zn_pl a n)))))))] H := hP
  have hD : va_D A [(h, .inr (2, [.int (nI n), .ref pa, v2, v3])), (pa, .inl (cA, 8, .inl (upd (upd fp (zn_pl a n) ((nI (P (zn_pl b n))))) (zn_pl b n) ((nI (P (zn_pl a n)))))))] := hD
  refine lv_iload_n hx hb d_M_swap_51 rfl (lv_at hl 2 rfl) ?_
  refine lv_iload hx hb d_M_swap_52 (lv_at hl 1 rfl) ?_
  refine rw_ceq (tgt := 61) hx hb d_M_swap_54 (by decide) (by omega) (by omega) (fun c1 => ?_) (fun c1 => ?_)
  · refine lv_iconst (v := (nI 0)) hx hb d_M_swap_61 (by decide) ?_
    have hP9 := hP.sub (ws' := [(h, .inr (2, [.int (nI n), .ref pa, v2, v3])), (pa, .inl (cA, 8, .inl (upd (upd fp (zn_pl a n) ((nI (P (zn_pl b n))))) (zn_pl b n) ((nI (P (zn_pl a n)))))))]) [0, 1] rfl
    have hD9 := hD.sub (ws' := [(h, .inr (2, [.int (nI n), .ref pa, v2, v3])), (pa, .inl (cA, 8, .inl (upd (upd fp (zn_pl a n) ((nI (P (zn_pl b n))))) (zn_pl b n) ((nI (P (zn_pl a n)))))))]) [0, 1] (by decide) rfl
    rw [hQ]
    exact W.zret (v := (nI 0)) (ty := .boolean) hx hb hr rfl (fun t ht hW => ⟨⟨(nI 0), (upd (upd fp (zn_pl a n) ((nI (P (zn_pl b n))))) (zn_pl b n) ((nI (P (zn_pl a n))))), rfl, ⟨by rw [pf_sb, if_pos c1], sw_ok hfp⟩, by rw [ht]; exact hP9, va_K.moved hW.alike hK, hD9⟩, hS.F ht⟩) hS.2.2 d_M_swap_62
  · refine lv_iconst (v := (nI 1)) hx hb d_M_swap_57 (by decide) ?_
    refine lv_goto (tgt := 62) hx hb d_M_swap_58 (by decide) ?_
    have hP9 := hP.sub (ws' := [(h, .inr (2, [.int (nI n), .ref pa, v2, v3])), (pa, .inl (cA, 8, .inl (upd (upd fp (zn_pl a n) ((nI (P (zn_pl b n))))) (zn_pl b n) ((nI (P (zn_pl a n)))))))]) [0, 1] rfl
    have hD9 := hD.sub (ws' := [(h, .inr (2, [.int (nI n), .ref pa, v2, v3])), (pa, .inl (cA, 8, .inl (upd (upd fp (zn_pl a n) ((nI (P (zn_pl b n))))) (zn_pl b n) ((nI (P (zn_pl a n)))))))]) [0, 1] (by decide) rfl
    rw [hQ]
    exact W.zret (v := (nI 1)) (ty := .boolean) hx hb hr rfl (fun t ht hW => ⟨⟨(nI 1), (upd (upd fp (zn_pl a n) ((nI (P (zn_pl b n))))) (zn_pl b n) ((nI (P (zn_pl a n))))), rfl, ⟨by rw [pf_sb, if_neg c1], sw_ok hfp⟩, by rw [ht]; exact hP9, va_K.moved hW.alike hK, hD9⟩, hS.F ht⟩) hS.2.2 d_M_swap_62
set_option maxHeartbeats 4000000 in
set_option maxRecDepth 100000 in
/-- RankDeskModel.at -/
theorem c_M_at (l : Launch) (D : va_G) (cA : ClassId) (h pa : Nat) (v2 v3 : Value) (fp : Nat → Int32) (P : Nat → Nat) (a : Int32) (n : Nat) (hn0 : 1 ≤ n) (hn : n ≤ 7) (hfp : ∀ k, k < n → fp k = nI (P k)) : Met l y_M_at wz_M_at { frames := 0, cells := 0, slots := 0, locals := 0 } (va_Pc [.ref h, .int a] (wd_R D cA [(h, .inr (2, [.int (nI n), .ref pa, v2, v3])), (pa, .inl (cA, 8, .inl fp))])) (QcRead (nI (P (zn_pl a n)))) 0 0 (fun _ => False) := by
  refine Met.ofW (cc := b_M_at) (maxL := 2) (ret := (some .int)) (by decide) rfl ?_
  intro p e s m args below meth c s₁ B hml hv
  obtain ⟨rfl, hP, hK⟩ := hv
  have hx := B.exec
  have hb := B.bytes
  have hr := B.returns
  have hlocks := B.notSynchronized
  have hown : s.vm.findClass "RankDeskModel" = some m.cls := findClass_of_methodNamed B.named
  have ht : ∀ w ∈ lw_g, w.before ([.ref h, .int a] : List Value).toArray s = true := fun w hw => atoms_spec (ws := wz_M_at) B.pre w (List.mem_cons_of_mem _ hw)
  obtain ⟨Q, hQ⟩ : ∃ Q, Q = MQ below (QcRead (nI (P (zn_pl a n)))) ([.ref h, .int a] : List Value).toArray s 0 0 (fun _ => False) := ⟨_, rfl⟩
  rw [← hQ]
  have hl := lv_entry ([.ref h, .int a]) (n := 2) (Nat.le_of_ble_eq_true rfl)
  rw [lg_entry_eq]
  generalize (lg_sl ([.ref h, .int a]) ++ List.replicate (2 - (lg_sl ([.ref h, .int a])).length) Slot.unset).toArray = ls at hl ⊢
  have hl : lv_has ls 2 [(0, .ref h), (1, .int a)] := hl
  show W p l e { frames := 0, cells := 0, slots := 0, locals := 0 } s m ([.ref h, .int a] : List Value).toArray below meth c s.heap [] 0 0 Q (F0 m 0 ls [])
  have hpa := zn_plt a (show 0 < n by omega)
  refine lv_aload_n hx hb d_M_at_0 rfl (lv_at hl 0 rfl) ?_
  refine gf_M_8 hx hb ht hown hK hP 0 rfl d_M_at_1 ?_
  refine lv_iload_n hx hb d_M_at_4 rfl (lv_at hl 1 rfl) ?_
  refine lv_ldc hx hb hown (ht _ tv_M_1) d_M_at_5 ?_
  refine lv_iand hx hb d_M_at_7 ?_
  refine rw_top (zn_max a) ?_
  refine lv_aload_n hx hb d_M_at_8 rfl (lv_at hl 0 rfl) ?_
  refine gf_M_2 hx hb ht hown hK hP 0 rfl d_M_at_9 ?_
  refine rw_irem (r := zn_pl a n) hx hb d_M_at_12 (by omega) (by omega) (by omega) rfl ?_
  refine rw_iald (v := (nI (P (zn_pl a n)))) hx hb hK hP 1 rfl (by omega) (by omega) (hfp _ hpa) d_M_at_13 ?_
  rw [hQ]
  exact W.iret (v := (nI (P (zn_pl a n)))) hx hb hr (fun t ht _ => ⟨rfl, ht⟩) (fun q h => by cases h) d_M_at_14
set_option maxHeartbeats 4000000 in
set_option maxRecDepth 100000 in
/-- RankDeskModel.next -/
theorem c_M_next (l : Launch) (D : va_G) (cA : ClassId) (sz h ra : Nat) (v1 v2 v3 : Value) (fr : Nat → Int32) (P : Nat → Nat) (n : Nat) (hn0 : 1 ≤ n) (hn : n ≤ 7) (hP8 : ∀ k, P k < 8) (hfr : ∀ k, k < n → fr k = nI (P k)) : Met l y_M_next wz_M_next { frames := 0, cells := 0, slots := 0, locals := 0 } (va_Pc [.ref h, .ref ra] (wd_Z D cA sz [(h, .inr (2, [.int (nI n), v1, v2, v3])), (ra, .inl (cA, 8, .inl fr))])) (va_Qi (fun (r_ : Int32) (u : Nat → Int32) => r_ = nI (pf_nx n P).2 ∧ ∀ k, k < n → u k = nI ((pf_nx n P).1 k)) (fun u t => wd_T D cA (va_A [(h, .inr (2, [.int (nI n), v1, v2, v3])), (ra, .inl (cA, 8, .inl fr))] sz) [(h, .inr (2, [.int (nI n), v1, v2, v3])), (ra, .inl (cA, 8, .inl u))] t) (va_A [(h, .inr (2, [.int (nI n), v1, v2, v3])), (ra, .inl (cA, 8, .inl fr))] sz)) 0 0 (va_A [(h, .inr (2, [.int (nI n), v1, v2, v3])), (ra, .inl (cA, 8, .inl fr))] sz) := by
  refine Met.ofW (cc := b_M_next) (maxL := 7) (ret := (some .boolean)) (by decide) rfl ?_
  intro p e s m args below meth c s₁ B hml hv
  obtain ⟨rfl, hsz, hP, hK, hD0⟩ := hv
  have hx := B.exec
  have hb := B.bytes
  have hr := B.returns
  have hlocks := B.notSynchronized
  have hown : s.vm.findClass "RankDeskModel" = some m.cls := findClass_of_methodNamed B.named
  have ht : ∀ w ∈ lw_g, w.before ([.ref h, .ref ra] : List Value).toArray s = true := fun w hw => atoms_spec (ws := wz_M_next) B.pre w (List.mem_cons_of_mem _ hw)
  subst hsz
  have hD := hD0.self (sz := s.heap.size)
  obtain ⟨A, hAe⟩ : ∃ A, A = va_A [(h, .inr (2, [.int (nI n), v1, v2, v3])), (ra, .inl (cA, 8, .inl fr))] s.heap.size := ⟨_, rfl⟩
  rw [← hAe] at hD ⊢
  have hA : ∀ q : Nat, s.heap.size ≤ q → A q := fun q h => by rw [hAe]; exact Or.inr h
  have hS : va_S A s.heap s.heap [] := va_S.rf
  have hP : va_P D classes [(h, .inr (2, [.int (nI n), v1, v2, v3])), (ra, .inl (cA, 8, .inl fr))] s.heap := hP
  obtain ⟨Q, hQ⟩ : ∃ Q, Q = MQ below (va_Qi (fun (r_ : Int32) (u : Nat → Int32) => r_ = nI (pf_nx n P).2 ∧ ∀ k, k < n → u k = nI ((pf_nx n P).1 k)) (fun u t => wd_T D cA A [(h, .inr (2, [.int (nI n), v1, v2, v3])), (ra, .inl (cA, 8, .inl u))] t) A) ([.ref h, .ref ra] : List Value).toArray s 0 0 A := ⟨_, rfl⟩
  rw [← hQ]
  have hl := lv_entry ([.ref h, .ref ra]) (n := 7) (Nat.le_of_ble_eq_true rfl)
  rw [lg_entry_eq]
  generalize (lg_sl ([.ref h, .ref ra]) ++ List.replicate (7 - (lg_sl ([.ref h, .ref ra])).length) Slot.unset).toArray = ls at hl ⊢
  have hl : lv_has ls 7 [(0, .ref h), (1, .ref ra)] := hl
  show W p l e { frames := 0, cells := 0, slots := 0, locals := 0 } s m ([.ref h, .ref ra] : List Value).toArray below meth c s.heap [] 0 0 Q (F0 m 0 ls [])
  have hJ := pf_fi_in (P := P) (n - 1)
  have ex : ∀ (i : Nat) (ls : Array Slot), pf_fi P (n - 1) = i + 1 → lv_has ls 7 [(0, .ref h), (1, .ref ra), (2, .int (nI i))] → W p l e { frames := 0, cells := 0, slots := 0, locals := 0 } s m ([.ref h, .ref ra] : List Value).toArray below meth c s.heap [] 0 0 Q (F0 m 29 ls []) := by
    intro i ls hi hl
    have hPi := hP8 i
    have hJJ := pf_fj_in (P := P) (v := P i) (n - 1)
    have enx : pf_nx n P = (pf_rv 8 (pf_sw P i (pf_fj P (P i) (n - 1))) (i + 1) (n - 1), 1) := by rw [pf_nx, if_neg (by omega), hi]; rfl
    have lr : ∀ (f a b : Nat) (S : Nat → Nat) (g : Nat → Int32) (H : Heap) (locs : List Loc) (ls : Array Slot), b ≤ n - 1 → b - a ≤ f → (∀ k, S k < 8) → (∀ k, k < n → g k = nI (S k)) → pf_rv f S a b = pf_rv 8 (pf_sw P i (pf_fj P (P i) (n - 1))) (i + 1) (n - 1) → a < 20 → va_P D classes [(h, .inr (2, [.int (nI n), v1, v2, v3])), (ra, .inl (cA, 8, .inl g))] H → va_D A [(h, .inr (2, [.int (nI n), v1, v2, v3])), (ra, .inl (cA, 8, .inl g))] → va_S A s.heap H locs → lv_has ls 7 [(0, .ref h), (1, .ref ra), (5, .int (nI b)), (6, .int (nI a))] → W p l e { frames := 0, cells := 0, slots := 0, locals := 0 } s m ([.ref h, .ref ra] : List Value).toArray below meth c H locs 0 0 Q (F0 m 107 ls []) := by
      intro f
      induction f with
      | zero =>
        intro a b S g H locs ls h1 h2 h3 h4 h5 h6 hP hD hS hl
        have h5 : S = pf_rv 8 (pf_sw P i (pf_fj P (P i) (n - 1))) (i + 1) (n - 1) := h5
        refine lv_iload hx hb d_M_next_107 (lv_at hl 3 rfl) ?_
        refine lv_iload hx hb d_M_next_109 (lv_at hl 2 rfl) ?_
        refine rw_cge (tgt := 146) hx hb d_M_next_111 (by decide) (by omega) (by omega) (fun c1 => ?_) (fun c1 => ?_)
        · refine lv_iconst (v := (nI 1)) hx hb d_M_next_146 (by decide) ?_
          have hP9 := hP.sub (ws' := [(h, .inr (2, [.int (nI n), v1, v2, v3])), (ra, .inl (cA, 8, .inl g))]) [0, 1] rfl
          have hD9 := hD.sub (ws' := [(h, .inr (2, [.int (nI n), v1, v2, v3])), (ra, .inl (cA, 8, .inl g))]) [0, 1] (by decide) rfl
          rw [hQ]
          exact W.zret (v := (nI 1)) (ty := .boolean) hx hb hr rfl (fun t ht hW => ⟨⟨(nI 1), g, rfl, ⟨by rw [enx], by rw [enx]; intro k hk; rw [← h5]; exact h4 k hk⟩, by rw [ht]; exact hP9, va_K.moved hW.alike hK, hD9⟩, hS.F ht⟩) hS.2.2 d_M_next_147
        · exact absurd c1 (by omega)
      | succ f ih =>
        intro a b S g H locs ls h1 h2 h3 h4 h5 h6 hP hD hS hl
        refine lv_iload hx hb d_M_next_107 (lv_at hl 3 rfl) ?_
        refine lv_iload hx hb d_M_next_109 (lv_at hl 2 rfl) ?_
        refine rw_cge (tgt := 146) hx hb d_M_next_111 (by decide) (by omega) (by omega) (fun c1 => ?_) (fun c1 => ?_)
        · rw [pf_rv, if_neg (by omega)] at h5
          refine lv_iconst (v := (nI 1)) hx hb d_M_next_146 (by decide) ?_
          have hP9 := hP.sub (ws' := [(h, .inr (2, [.int (nI n), v1, v2, v3])), (ra, .inl (cA, 8, .inl g))]) [0, 1] rfl
          have hD9 := hD.sub (ws' := [(h, .inr (2, [.int (nI n), v1, v2, v3])), (ra, .inl (cA, 8, .inl g))]) [0, 1] (by decide) rfl
          rw [hQ]
          exact W.zret (v := (nI 1)) (ty := .boolean) hx hb hr rfl (fun t ht hW => ⟨⟨(nI 1), g, rfl, ⟨by rw [enx], by rw [enx]; intro k hk; rw [← h5]; exact h4 k hk⟩, by rw [ht]; exact hP9, va_K.moved hW.alike hK, hD9⟩, hS.F ht⟩) hS.2.2 d_M_next_147
        · rw [pf_rv, if_pos c1] at h5
          refine lv_aload_n hx hb d_M_next_114 rfl (lv_at hl 1 rfl) ?_
          refine lv_iload hx hb d_M_next_115 (lv_at hl 3 rfl) ?_
          refine rw_iald (v := (nI (S a))) hx hb hK hP 1 rfl (by omega) (by omega) (h4 _ (by omega)) d_M_next_117 ?_
          refine lv_istore (lv' := [(4, .int (nI (S a))), (0, .ref h), (1, .ref ra), (5, .int (nI b)), (6, .int (nI a))]) hx hb d_M_next_118 hl (by decide) rfl (fun ls hl => ?_)
          refine lv_aload_n hx hb d_M_next_120 rfl (lv_at hl 2 rfl) ?_
          refine lv_iload hx hb d_M_next_121 (lv_at hl 4 rfl) ?_
          refine lv_aload_n hx hb d_M_next_123 rfl (lv_at hl 2 rfl) ?_
          refine lv_iload hx hb d_M_next_124 (lv_at hl 3 rfl) ?_
          refine rw_iald (v := (nI (S b))) hx hb hK hP 1 rfl (by omega) (by omega) (h4 _ (by omega)) d_M_next_126 ?_
          refine rw_iast (k := a) hx hb hK hP hD hS 1 rfl (by omega) (by omega) d_M_next_127 (fun H locs hP hD hS => ?_)
          have hP : va_P D classes [(h, .inr (2, [.int (nI n), v1, v2, v3])), (ra, .inl (cA, 8, .inl (upd g a ((nI (S b))))))] H := hP
          have hD : va_D A [(h, .inr (2, [.int (nI n), v1, v2, v3])), (ra, .inl (cA, 8, .inl (upd g a ((nI (S b))))))] := hD
          refine lv_aload_n hx hb d_M_next_128 rfl (lv_at hl 2 rfl) ?_
          refine lv_iload hx hb d_M_next_129 (lv_at hl 3 rfl) ?_
          refine lv_iload hx hb d_M_next_131 (lv_at hl 0 rfl) ?_
          refine rw_iast (k := b) hx hb hK hP hD hS 1 rfl (by omega) (by omega) d_M_next_133 (fun H locs hP hD hS => ?_)
          have hP : va_P D classes [(h, .inr (2, [.int (nI n), v1, v2, v3])), (ra, .inl (cA, 8, .inl (upd (upd g a ((nI (S b)))) b ((nI (S a))))))] H := hP
          have hD : va_D A [(h, .inr (2, [.int (nI n), v1, v2, v3])), (ra, .inl (cA, 8, .inl (upd (upd g a ((nI (S b)))) b ((nI (S a))))))] := hD
          refine lv_iload hx hb d_M_next_134 (lv_at hl 3 rfl) ?_
          refine lv_iconst (v := (nI 1)) hx hb d_M_next_136 (by decide) ?_
          refine rw_isub (r := b - 1) hx hb d_M_next_137 (by omega) ?_
          refine lv_istore (lv' := [(5, .int (nI (b - 1))), (4, .int (nI (S a))), (0, .ref h), (1, .ref ra), (6, .int (nI a))]) hx hb d_M_next_138 hl (by decide) rfl (fun ls hl => ?_)
          refine lv_iinc (v := (nI (a + 1))) (lv' := [(6, .int (nI (a + 1))), (5, .int (nI (b - 1))), (4, .int (nI (S a))), (0, .ref h), (1, .ref ra)]) hx hb d_M_next_140 hl (k := 4) rfl (nI_add a 1) (by decide) rfl (fun ls hl => ?_)
          refine lv_goto (tgt := 107) hx hb d_M_next_143 (by decide) ?_
          exact ih (a + 1) (b - 1) (pf_sw S a b) (upd (upd g a (nI (S b))) b (nI (S a))) H locs ls (by omega) (by omega) (pf_sw_lt h3) (sw_ok h4) h5 (by omega) hP hD hS (lv_sub hl [3, 4, 1, 0] rfl)
    have e2 : ∀ (_ : Unit) (ls : Array Slot), lv_has ls 7 [(0, .ref h), (1, .ref ra), (2, .int (nI i)), (3, .int (nI (pf_fj P (P i) (n - 1))))] → W p l e { frames := 0, cells := 0, slots := 0, locals := 0 } s m ([.ref h, .ref ra] : List Value).toArray below meth c s.heap [] 0 0 Q (F0 m 78 ls []) := by
      intro _ ls hl
      refine lv_aload_n hx hb d_M_next_78 rfl (lv_at hl 1 rfl) ?_
      refine lv_iload_n hx hb d_M_next_79 rfl (lv_at hl 2 rfl) ?_
      refine rw_iald (v := (nI (P i))) hx hb hK hP 1 rfl (by omega) (by omega) (hfr _ (by omega)) d_M_next_80 ?_
      refine lv_istore (lv' := [(4, .int (nI (P i))), (0, .ref h), (1, .ref ra), (2, .int (nI i)), (3, .int (nI (pf_fj P (P i) (n - 1))))]) hx hb d_M_next_81 hl (by decide) rfl (fun ls hl => ?_)
      refine lv_aload_n hx hb d_M_next_83 rfl (lv_at hl 2 rfl) ?_
      refine lv_iload_n hx hb d_M_next_84 rfl (lv_at hl 3 rfl) ?_
      refine lv_aload_n hx hb d_M_next_85 rfl (lv_at hl 2 rfl) ?_
      refine lv_iload_n hx hb d_M_next_86 rfl (lv_at hl 4 rfl) ?_
      refine rw_iald (v := (nI (P (pf_fj P (P i) (n - 1))))) hx hb hK hP 1 rfl (by omega) (by omega) (hfr _ (by omega)) d_M_next_87 ?_
      refine rw_iast (k := i) hx hb hK hP hD hS 1 rfl (by omega) (by omega) d_M_next_88 (fun H locs hP hD hS => ?_)
      have hP : va_P D classes [(h, .inr (2, [.int (nI n), v1, v2, v3])), (ra, .inl (cA, 8, .inl (upd fr i ((nI (P (pf_fj P (P i) (n - 1))))))))] H := hP
      have hD : va_D A [(h, .inr (2, [.int (nI n), v1, v2, v3])), (ra, .inl (cA, 8, .inl (upd fr i ((nI (P (pf_fj P (P i) (n - 1))))))))] := hD
      refine lv_aload_n hx hb d_M_next_89 rfl (lv_at hl 2 rfl) ?_
      refine lv_iload_n hx hb d_M_next_90 rfl (lv_at hl 4 rfl) ?_
      refine lv_iload hx hb d_M_next_91 (lv_at hl 0 rfl) ?_
      refine rw_iast (k := pf_fj P (P i) (n - 1)) hx hb hK hP hD hS 1 rfl (by omega) (by omega) d_M_next_93 (fun H locs hP hD hS => ?_)
      have hP : va_P D classes [(h, .inr (2, [.int (nI n), v1, v2, v3])), (ra, .inl (cA, 8, .inl (upd (upd fr i ((nI (P (pf_fj P (P i) (n - 1)))))) (pf_fj P (P i) (n - 1)) ((nI (P i))))))] H := hP
      have hD : va_D A [(h, .inr (2, [.int (nI n), v1, v2, v3])), (ra, .inl (cA, 8, .inl (upd (upd fr i ((nI (P (pf_fj P (P i) (n - 1)))))) (pf_fj P (P i) (n - 1)) ((nI (P i))))))] := hD
      refine lv_aload_n hx hb d_M_next_94 rfl (lv_at hl 1 rfl) ?_
      refine gf_M_2 hx hb ht hown hK hP 0 rfl d_M_next_95 ?_
      refine lv_iconst (v := (nI 1)) hx hb d_M_next_98 (by decide) ?_
      refine rw_isub (r := n - 1) hx hb d_M_next_99 (by omega) ?_
      refine lv_istore (lv' := [(5, .int (nI (n - 1))), (4, .int (nI (P i))), (0, .ref h), (1, .ref ra), (2, .int (nI i)), (3, .int (nI (pf_fj P (P i) (n - 1))))]) hx hb d_M_next_100 hl (by decide) rfl (fun ls hl => ?_)
      refine lv_iload_n hx hb d_M_next_102 rfl (lv_at hl 4 rfl) ?_
      refine lv_iconst (v := (nI 1)) hx hb d_M_next_103 (by decide) ?_
      refine rw_iadd (r := i + 1) hx hb d_M_next_104 rfl ?_
      refine lv_istore (lv' := [(6, .int (nI (i + 1))), (5, .int (nI (n - 1))), (4, .int (nI (P i))), (0, .ref h), (1, .ref ra), (2, .int (nI i)), (3, .int (nI (pf_fj P (P i) (n - 1))))]) hx hb d_M_next_105 hl (by decide) rfl (fun ls hl => ?_)
      exact lr 8 (i + 1) (n - 1) (pf_sw P i (pf_fj P (P i) (n - 1))) (upd (upd fr i (nI (P (pf_fj P (P i) (n - 1))))) (pf_fj P (P i) (n - 1)) (nI (P i))) H locs ls (by omega) (by omega) (pf_sw_lt hP8) (sw_ok hfr) rfl (by omega) hP hD hS (lv_sub hl [3, 4, 1, 0] rfl)
    have lj : ∀ (j : Nat) (ls : Array Slot), i ≤ j → j ≤ n - 1 → pf_fj P (P i) j = pf_fj P (P i) (n - 1) → lv_has ls 7 [(0, .ref h), (1, .ref ra), (2, .int (nI i)), (3, .int (nI j))] → W p l e { frames := 0, cells := 0, slots := 0, locals := 0 } s m ([.ref h, .ref ra] : List Value).toArray below meth c s.heap [] 0 0 Q (F0 m 62 ls []) := by
      intro j
      induction j with
      | zero =>
        intro ls h1 h2 h3 hl
        have h3 : 0 = pf_fj P (P i) (n - 1) := h3
        have h0 := hP8 0
        refine lv_aload_n hx hb d_M_next_62 rfl (lv_at hl 1 rfl) ?_
        refine lv_iload_n hx hb d_M_next_63 rfl (lv_at hl 3 rfl) ?_
        refine rw_iald (v := (nI (P 0))) hx hb hK hP 1 rfl (by omega) (by omega) (hfr _ (by omega)) d_M_next_64 ?_
        refine lv_aload_n hx hb d_M_next_65 rfl (lv_at hl 1 rfl) ?_
        refine lv_iload_n hx hb d_M_next_66 rfl (lv_at hl 2 rfl) ?_
        refine rw_iald (v := (nI (P i))) hx hb hK hP 1 rfl (by omega) (by omega) (hfr _ (by omega)) d_M_next_67 ?_
        refine rw_cge (tgt := 78) hx hb d_M_next_68 (by decide) (by omega) (by omega) (fun c1 => ?_) (fun c1 => ?_)
        · have hl : lv_has ls 7 [(0, .ref h), (1, .ref ra), (2, .int (nI i)), (3, .int (nI (pf_fj P (P i) (n - 1))))] := by rw [← h3]; exact hl
          exact e2 () ls hl
        · exact absurd c1 (by rw [show i = 0 by omega]; omega)
      | succ j ih =>
        intro ls h1 h2 h3 hl
        have h0 := hP8 (j + 1)
        refine lv_aload_n hx hb d_M_next_62 rfl (lv_at hl 1 rfl) ?_
        refine lv_iload_n hx hb d_M_next_63 rfl (lv_at hl 3 rfl) ?_
        refine rw_iald (v := (nI (P (j + 1)))) hx hb hK hP 1 rfl (by omega) (by omega) (hfr _ (by omega)) d_M_next_64 ?_
        refine lv_aload_n hx hb d_M_next_65 rfl (lv_at hl 1 rfl) ?_
        refine lv_iload_n hx hb d_M_next_66 rfl (lv_at hl 2 rfl) ?_
        refine rw_iald (v := (nI (P i))) hx hb hK hP 1 rfl (by omega) (by omega) (hfr _ (by omega)) d_M_next_67 ?_
        refine rw_cge (tgt := 78) hx hb d_M_next_68 (by decide) (by omega) (by omega) (fun c1 => ?_) (fun c1 => ?_)
        · rw [pf_fj, if_neg (by omega)] at h3
          rw [h3] at hl
          exact e2 () ls (lv_sub hl [0, 1, 2, 3] rfl)
        · rw [pf_fj, if_pos c1] at h3
          have hne : i ≠ j + 1 := fun q => absurd c1 (by rw [q]; omega)
          refine lv_iload_n hx hb d_M_next_71 rfl (lv_at hl 3 rfl) ?_
          refine lv_iconst (v := (nI 1)) hx hb d_M_next_72 (by decide) ?_
          refine rw_isub (r := j) hx hb d_M_next_73 (by omega) ?_
          refine lv_istore_n (lv' := [(3, .int (nI j)), (0, .ref h), (1, .ref ra), (2, .int (nI i))]) hx hb d_M_next_74 rfl hl (by decide) rfl (fun ls hl => ?_)
          refine lv_goto (tgt := 62) hx hb d_M_next_75 (by decide) ?_
          exact ih ls (by omega) (by omega) h3 (lv_sub hl [1, 2, 3, 0] rfl)
    refine lv_iload_n hx hb d_M_next_29 rfl (lv_at hl 2 rfl) ?_
    refine rw_dge1 (tgt := 55) hx hb d_M_next_30 (by decide) (by omega) ?_
    refine lv_aload_n hx hb d_M_next_55 rfl (lv_at hl 0 rfl) ?_
    refine gf_M_2 hx hb ht hown hK hP 0 rfl d_M_next_56 ?_
    refine lv_iconst (v := (nI 1)) hx hb d_M_next_59 (by decide) ?_
    refine rw_isub (r := n - 1) hx hb d_M_next_60 (by omega) ?_
    refine lv_istore_n (lv' := [(3, .int (nI (n - 1))), (0, .ref h), (1, .ref ra), (2, .int (nI i))]) hx hb d_M_next_61 rfl hl (by decide) rfl (fun ls hl => ?_)
    exact lj (n - 1) ls (by omega) (by omega) rfl (lv_sub hl [1, 2, 3, 0] rfl)
  have e0 : ∀ (_ : Unit) (ls : Array Slot), pf_fi P (n - 1) = 0 → lv_has ls 7 [(0, .ref h), (1, .ref ra), (2, .int (dI 0))] → W p l e { frames := 0, cells := 0, slots := 0, locals := 0 } s m ([.ref h, .ref ra] : List Value).toArray below meth c s.heap [] 0 0 Q (F0 m 29 ls []) := by
    intro _ ls hi hl
    have enx : pf_nx n P = (fun k => k, 0) := by rw [pf_nx, if_pos hi]
    refine lv_iload_n hx hb d_M_next_29 rfl (lv_at hl 2 rfl) ?_
    refine rw_dge0 (tgt := 55) hx hb d_M_next_30 (by decide) ?_
    refine lv_iconst (v := (nI 0)) hx hb d_M_next_33 (by decide) ?_
    refine lv_istore_n (lv' := [(3, .int (nI 0)), (0, .ref h), (1, .ref ra), (2, .int (dI 0))]) hx hb d_M_next_34 rfl hl (by decide) rfl (fun ls hl => ?_)
    have lk : ∀ (t k : Nat) (g : Nat → Int32) (H : Heap) (locs : List Loc) (ls : Array Slot), k + t = n → (∀ j, j < k → g j = nI j) → va_P D classes [(h, .inr (2, [.int (nI n), v1, v2, v3])), (ra, .inl (cA, 8, .inl g))] H → va_D A [(h, .inr (2, [.int (nI n), v1, v2, v3])), (ra, .inl (cA, 8, .inl g))] → va_S A s.heap H locs → lv_has ls 7 [(0, .ref h), (1, .ref ra), (3, .int (nI k))] → W p l e { frames := 0, cells := 0, slots := 0, locals := 0 } s m ([.ref h, .ref ra] : List Value).toArray below meth c H locs 0 0 Q (F0 m 35 ls []) := by
      intro t
      induction t with
      | zero =>
        intro k g H locs ls hk hg hP hD hS hl
        refine lv_iload_n hx hb d_M_next_35 rfl (lv_at hl 2 rfl) ?_
        refine lv_aload_n hx hb d_M_next_36 rfl (lv_at hl 0 rfl) ?_
        refine gf_M_2 hx hb ht hown hK hP 0 rfl d_M_next_37 ?_
        refine rw_cge (tgt := 53) hx hb d_M_next_40 (by decide) (by omega) (by omega) (fun c1 => ?_) (fun c1 => ?_)
        · refine lv_iconst (v := (nI 0)) hx hb d_M_next_53 (by decide) ?_
          have hP9 := hP.sub (ws' := [(h, .inr (2, [.int (nI n), v1, v2, v3])), (ra, .inl (cA, 8, .inl g))]) [0, 1] rfl
          have hD9 := hD.sub (ws' := [(h, .inr (2, [.int (nI n), v1, v2, v3])), (ra, .inl (cA, 8, .inl g))]) [0, 1] (by decide) rfl
          rw [hQ]
          exact W.zret (v := (nI 0)) (ty := .boolean) hx hb hr rfl (fun t ht hW => ⟨⟨(nI 0), g, rfl, ⟨by rw [enx], by rw [enx]; intro j hj; exact hg j (by omega)⟩, by rw [ht]; exact hP9, va_K.moved hW.alike hK, hD9⟩, hS.F ht⟩) hS.2.2 d_M_next_54
        · exact absurd c1 (by omega)
      | succ t ih =>
        intro k g H locs ls hk hg hP hD hS hl
        refine lv_iload_n hx hb d_M_next_35 rfl (lv_at hl 2 rfl) ?_
        refine lv_aload_n hx hb d_M_next_36 rfl (lv_at hl 0 rfl) ?_
        refine gf_M_2 hx hb ht hown hK hP 0 rfl d_M_next_37 ?_
        refine rw_cge (tgt := 53) hx hb d_M_next_40 (by decide) (by omega) (by omega) (fun c1 => ?_) (fun c1 => ?_)
        · exact absurd c1 (by omega)
        · refine lv_aload_n hx hb d_M_next_43 rfl (lv_at hl 1 rfl) ?_
          refine lv_iload_n hx hb d_M_next_44 rfl (lv_at hl 2 rfl) ?_
          refine lv_iload_n hx hb d_M_next_45 rfl (lv_at hl 2 rfl) ?_
          refine rw_iast (k := k) hx hb hK hP hD hS 1 rfl (by omega) (by omega) d_M_next_46 (fun H locs hP hD hS => ?_)
          have hP : va_P D classes [(h, .inr (2, [.int (nI n), v1, v2, v3])), (ra, .inl (cA, 8, .inl (upd g k ((nI k)))))] H := hP
          have hD : va_D A [(h, .inr (2, [.int (nI n), v1, v2, v3])), (ra, .inl (cA, 8, .inl (upd g k ((nI k)))))] := hD
          refine lv_iinc (v := (nI (k + 1))) (lv' := [(3, .int (nI (k + 1))), (0, .ref h), (1, .ref ra)]) hx hb d_M_next_47 hl (k := 2) rfl (nI_add k 1) (by decide) rfl (fun ls hl => ?_)
          refine lv_goto (tgt := 35) hx hb d_M_next_50 (by decide) ?_
          exact ih (k + 1) (upd g k (nI k)) H locs ls (by omega) (up_st (E := fun j => j) hg) hP hD hS (lv_sub hl [1, 2, 0] rfl)
    exact lk n 0 fr s.heap [] ls (by omega) (fun j hj => absurd hj (Nat.not_lt_zero j)) hP hD hS (lv_sub hl [1, 2, 0] rfl)
  have li : ∀ (j : Nat) (ls : Array Slot), j ≤ n - 1 → pf_fi P j = pf_fi P (n - 1) → lv_has ls 7 [(0, .ref h), (1, .ref ra), (2, .int (dI j))] → W p l e { frames := 0, cells := 0, slots := 0, locals := 0 } s m ([.ref h, .ref ra] : List Value).toArray below meth c s.heap [] 0 0 Q (F0 m 7 ls []) := by
    intro j
    induction j with
    | zero =>
      intro ls h1 h3 hl
      have h3 : 0 = pf_fi P (n - 1) := h3
      refine lv_iload_n hx hb d_M_next_7 rfl (lv_at hl 2 rfl) ?_
      refine rw_dlt0 (tgt := 29) hx hb d_M_next_8 (by decide) ?_
      exact e0 () ls h3.symm (lv_sub hl [0, 1, 2] rfl)
    | succ j ih =>
      intro ls h1 h3 hl
      rw [dI_succ] at hl
      have h0 := hP8 j
      have h01 := hP8 (j + 1)
      refine lv_iload_n hx hb d_M_next_7 rfl (lv_at hl 2 rfl) ?_
      refine rw_dlt1 (tgt := 29) hx hb d_M_next_8 (by decide) (by omega) ?_
      refine lv_aload_n hx hb d_M_next_11 rfl (lv_at hl 1 rfl) ?_
      refine lv_iload_n hx hb d_M_next_12 rfl (lv_at hl 2 rfl) ?_
      refine rw_iald (v := (nI (P j))) hx hb hK hP 1 rfl (by omega) (by omega) (hfr _ (by omega)) d_M_next_13 ?_
      refine lv_aload_n hx hb d_M_next_14 rfl (lv_at hl 1 rfl) ?_
      refine lv_iload_n hx hb d_M_next_15 rfl (lv_at hl 2 rfl) ?_
      refine lv_iconst (v := (nI 1)) hx hb d_M_next_16 (by decide) ?_
      refine rw_iadd (r := j + 1) hx hb d_M_next_17 rfl ?_
      refine rw_iald (v := (nI (P (j + 1)))) hx hb hK hP 1 rfl (by omega) (by omega) (hfr _ (by omega)) d_M_next_18 ?_
      refine rw_cle (tgt := 29) hx hb d_M_next_19 (by decide) (by omega) (by omega) (fun c1 => ?_) (fun c1 => ?_)
      · rw [pf_fi, if_neg (by omega)] at h3
        exact ex j ls h3.symm (lv_sub hl [0, 1, 2] rfl)
      · rw [pf_fi, if_pos c1] at h3
        refine lv_iload_n hx hb d_M_next_22 rfl (lv_at hl 2 rfl) ?_
        refine lv_iconst (v := (nI 1)) hx hb d_M_next_23 (by decide) ?_
        refine rw_isubD hx hb d_M_next_24 ?_
        refine lv_istore_n (lv' := [(2, .int (dI j)), (0, .ref h), (1, .ref ra)]) hx hb d_M_next_25 rfl hl (by decide) rfl (fun ls hl => ?_)
        refine lv_goto (tgt := 7) hx hb d_M_next_26 (by decide) ?_
        exact ih ls (by omega) h3 (lv_sub hl [1, 2, 0] rfl)
  refine lv_aload_n hx hb d_M_next_0 rfl (lv_at hl 0 rfl) ?_
  refine gf_M_2 hx hb ht hown hK hP 0 rfl d_M_next_1 ?_
  refine lv_iconst (v := (nI 2)) hx hb d_M_next_4 (by decide) ?_
  refine lv_isub hx hb d_M_next_5 ?_
  refine rw_top (y := (dI (n - 1))) (zn_n2 hn0) ?_
  refine lv_istore_n (lv' := [(2, .int (dI (n - 1))), (0, .ref h), (1, .ref ra)]) hx hb d_M_next_6 rfl hl (by decide) rfl (fun ls hl => ?_)
  exact li (n - 1) ls (Nat.le_refl _) rfl (lv_sub hl [1, 2, 0] rfl)
end
section
/-! truth values as numbers -/
theorem bt_le (a : Bool) : a.toNat ≤ 1 := by cases a <;> decide
theorem bt_0 {a b : Bool} (h : a.toNat = 0) : (a && b).toNat = 0 := by cases a <;> cases b <;> first | rfl | exact absurd h (by decide)
theorem bt_n {a b : Bool} (h : b = false) : (a && b).toNat = 0 := by subst h; cases a <;> rfl
theorem bt_1 {a b : Bool} (h : a.toNat ≠ 0) (hb : b = true) : (a && b).toNat = 1 := by subst hb; cases a <;> first | rfl | exact absurd rfl h
theorem bt_t {a : Bool} (h : a.toNat ≠ 0) : a = true := by cases a <;> first | rfl | exact absurd rfl h
theorem bt_f {a : Bool} (h : a.toNat = 0) : a = false := by cases a <;> first | rfl | exact absurd h (by decide)
theorem nb_ne {a b : Nat} (h : a ≠ b) : Nat.beq a b = false := by
  cases q : Nat.beq a b
  · rfl
  · exact absurd (Nat.eq_of_beq_eq_true q) h
theorem nb_eq {a b : Nat} (h : a = b) : Nat.beq a b = true := by subst h; exact Nat.beq_refl a
theorem nl_lt {a b : Nat} (h : a < b) : Nat.blt a b = true := Nat.ble_eq_true_of_le h
theorem nl_ge {a b : Nat} (h : b ≤ a) : Nat.blt a b = false := by
  cases q : Nat.blt a b
  · rfl
  · exact absurd (Nat.le_of_ble_eq_true q) (by omega)
theorem nl_le {a b : Nat} (h : a ≤ b) : Nat.ble a b = true := Nat.ble_eq_true_of_le h
theorem nl_gt {a b : Nat} (h : b < a) : Nat.ble a b = false := by
  cases q : Nat.ble a b
  · rfl
  · exact absurd (Nat.le_of_ble_eq_true q) (by omega)
theorem nr_fb {n r : Nat} : narrow .boolean (.int (nI (pf_fb n r))) = .int (nI (pf_fb n r)) := by
  unfold pf_fb
  split <;> rfl
/-- is the order of rank c that of rank r, so far -/
def pf_eqs (n c r : Nat) : Nat → Bool := pf_upto (fun j => Nat.beq (pf_dg (pf_un n c) j) (pf_dg (pf_un n r) j))
theorem pf_eqs_t {n r : Nat} : pf_eqs n r r n = true := pf_upto_t n (fun _ _ => nb_eq rfl)
theorem pf_eqs_f {n c r : Nat} (hn0 : 1 ≤ n) (hn : n ≤ 7) (hr : r < pf_fac n) (hc : c < r) : pf_eqs n c r n = false := by
  cases q : pf_eqs n c r n
  · rfl
  · exact absurd (pu_same hn0 hn hr (by omega) (fun j hj => Nat.eq_of_beq_eq_true (pf_upto_ok n q j hj))) (by omega)
end
section
/-! RankDeskModel: the second part -/
set_option maxHeartbeats 4000000 in
set_option maxRecDepth 100000 in
/-- RankDeskModel.forward -/
theorem c_M_forward (l : Launch) (D : va_G) (cA : ClassId) (sz h pa : Nat) (v2 v3 : Value) (fp : Nat → Int32) (n r : Nat) (hn0 : 1 ≤ n) (hn : n ≤ 7) (hr0 : r < pf_fac n) (hfp : ∀ k, k < n → fp k = nI (pf_dg (pf_un n r) k)) : Met l y_M_forward wz_M_forward { frames := 1, cells := 0, slots := 0, locals := 26 } (va_Pc [.ref h] (wd_Z D cA sz [(h, .inr (2, [.int (nI n), .ref pa, v2, v3])), (pa, .inl (cA, 8, .inl fp))])) (va_Qi (fun (r_ : Int32) (u : Nat → Int32) => r_ = nI (pf_fb n r) ∧ ∀ k, k < n → u k = nI (pf_dg (pf_un n (pf_fw n r)) k)) (fun u t => wd_T D cA (va_A [(h, .inr (2, [.int (nI n), .ref pa, v2, v3])), (pa, .inl (cA, 8, .inl fp))] sz) [(h, .inr (2, [.int (nI n), .ref pa, v2, v3])), (pa, .inl (cA, 8, .inl u))] t) (va_A [(h, .inr (2, [.int (nI n), .ref pa, v2, v3])), (pa, .inl (cA, 8, .inl fp))] sz)) 0 0 (va_A [(h, .inr (2, [.int (nI n), .ref pa, v2, v3])), (pa, .inl (cA, 8, .inl fp))] sz) := by
  refine Met.ofW (cc := b_M_forward) (maxL := 1) (ret := (some .boolean)) (by decide) rfl ?_
  intro p e s m args below meth c s₁ B hml hv
  obtain ⟨rfl, hsz, hP, hK, hD0⟩ := hv
  have hx := B.exec
  have hb := B.bytes
  have hr := B.returns
  have hlocks := B.notSynchronized
  have hown : s.vm.findClass "RankDeskModel" = some m.cls := findClass_of_methodNamed B.named
  have ht : ∀ w ∈ lw_g, w.before ([.ref h] : List Value).toArray s = true := fun w hw => atoms_spec (ws := wz_M_forward) B.pre w (List.mem_cons_of_mem _ hw)
  subst hsz
  have hD := hD0.self (sz := s.heap.size)
  obtain ⟨A, hAe⟩ : ∃ A, A = va_A [(h, .inr (2, [.int (nI n), .ref pa, v2, v3])), (pa, .inl (cA, 8, .inl fp))] s.heap.size := ⟨_, rfl⟩
  rw [← hAe] at hD ⊢
  have hA : ∀ q : Nat, s.heap.size ≤ q → A q := fun q h => by rw [hAe]; exact Or.inr h
  have hS : va_S A s.heap s.heap [] := va_S.rf
  have hP : va_P D classes [(h, .inr (2, [.int (nI n), .ref pa, v2, v3])), (pa, .inl (cA, 8, .inl fp))] s.heap := hP
  obtain ⟨Q, hQ⟩ : ∃ Q, Q = MQ below (va_Qi (fun (r_ : Int32) (u : Nat → Int32) => r_ = nI (pf_fb n r) ∧ ∀ k, k < n → u k = nI (pf_dg (pf_un n (pf_fw n r)) k)) (fun u t => wd_T D cA A [(h, .inr (2, [.int (nI n), .ref pa, v2, v3])), (pa, .inl (cA, 8, .inl u))] t) A) ([.ref h] : List Value).toArray s 0 0 A := ⟨_, rfl⟩
  rw [← hQ]
  have hl := lv_entry ([.ref h]) (n := 1) (Nat.le_of_ble_eq_true rfl)
  rw [lg_entry_eq]
  generalize (lg_sl ([.ref h]) ++ List.replicate (1 - (lg_sl ([.ref h])).length) Slot.unset).toArray = ls at hl ⊢
  have hl : lv_has ls 1 [(0, .ref h)] := hl
  show W p l e { frames := 1, cells := 0, slots := 0, locals := 26 } s m ([.ref h] : List Value).toArray below meth c s.heap [] 0 0 Q (F0 m 0 ls [])
  have hn2 := pu_nx hn0 hn hr0
  refine lv_aload_n hx hb d_M_forward_0 rfl (lv_at hl 0 rfl) ?_
  refine lv_aload_n hx hb d_M_forward_1 rfl (lv_at hl 0 rfl) ?_
  refine gf_M_8 hx hb ht hown hK hP 0 rfl d_M_forward_2 ?_
  refine cl_i (D := D) (cA := cA) (wc := [(h, .inr (2, [.int (nI n), .ref pa, v2, v3])), (pa, .inl (cA, 8, .inl fp))]) (wr := []) (w1 := fun u => [(h, .inr (2, [.int (nI n), .ref pa, v2, v3])), (pa, .inl (cA, 8, .inl u))]) (rn_V (As := [.ref pa]) (rest := []) ⟨hx, hb, hml, hown, ht⟩ (c_M_next l D cA s.heap.size h pa (.ref pa) v2 v3 fp (pf_dg (pf_un n r)) n hn0 hn (fun k => pf_dg_lt _ _) hfp) mb_M_next tm_M_next ts_M_next tl_M_28 rfl rfl ⟨Nat.le_of_ble_eq_true rfl, Nat.le_of_ble_eq_true rfl⟩ (pr_V (q0 := 0) (ci := 2) (pr_Z hP hK hD [0, 1] rfl (by decide) rfl) hP hK rfl rfl rfl) rfl hl.1 rfl (Nat.le_of_ble_eq_true rfl) d_M_forward_5 ⟨Nat.le_of_ble_eq_true rfl, Nat.le_of_ble_eq_true rfl⟩) hP hD hS hA [0, 1] [] rfl rfl (by decide) (by decide) (fun r_ u_ H locs hw hP hD hS => ?_)
  have hP : va_P D classes [(h, .inr (2, [.int (nI n), .ref pa, v2, v3])), (pa, .inl (cA, 8, .inl u_))] H := hP
  have hD : va_D A [(h, .inr (2, [.int (nI n), .ref pa, v2, v3])), (pa, .inl (cA, 8, .inl u_))] := hD
  obtain ⟨hw1, hw2⟩ := hw
  refine rw_top (y := (nI (pf_fb n r))) (by rw [hw1, hn2.1]) ?_
  have hP9 := hP.sub (ws' := [(h, .inr (2, [.int (nI n), .ref pa, v2, v3])), (pa, .inl (cA, 8, .inl u_))]) [0, 1] rfl
  have hD9 := hD.sub (ws' := [(h, .inr (2, [.int (nI n), .ref pa, v2, v3])), (pa, .inl (cA, 8, .inl u_))]) [0, 1] (by decide) rfl
  rw [hQ]
  exact W.zret (v := (nI (pf_fb n r))) (ty := .boolean) hx hb hr nr_fb (fun t ht hW => ⟨⟨(nI (pf_fb n r)), u_, rfl, ⟨rfl, fun k hk => by rw [hw2 k hk, hn2.2 k hk]⟩, by rw [ht]; exact hP9, va_K.moved hW.alike hK, hD9⟩, hS.F ht⟩) hS.2.2 d_M_forward_8
set_option maxHeartbeats 4000000 in
set_option maxRecDepth 100000 in
/-- RankDeskModel.unrank -/
theorem c_M_unrank (l : Launch) (D : va_G) (cA : ClassId) (sz h pa : Nat) (v2 v3 : Value) (fp : Nat → Int32) (a : Int32) (n : Nat) (hn0 : 1 ≤ n) (hn : n ≤ 7) : Met l y_M_unrank wz_M_unrank { frames := 1, cells := 0, slots := 0, locals := 26 } (va_Pc [.ref h, .int a] (wd_Z D cA sz [(h, .inr (2, [.int (nI n), .ref pa, v2, v3])), (pa, .inl (cA, 8, .inl fp))])) (va_Qv (fun (u : Nat → Int32) => ∀ k, k < n → u k = nI (pf_dg (pf_un n (zn_pl a (pf_fac n))) k)) (fun u t => wd_T D cA (va_A [(h, .inr (2, [.int (nI n), .ref pa, v2, v3])), (pa, .inl (cA, 8, .inl fp))] sz) [(h, .inr (2, [.int (nI n), .ref pa, v2, v3])), (pa, .inl (cA, 8, .inl u))] t) (va_A [(h, .inr (2, [.int (nI n), .ref pa, v2, v3])), (pa, .inl (cA, 8, .inl fp))] sz)) 0 0 (va_A [(h, .inr (2, [.int (nI n), .ref pa, v2, v3])), (pa, .inl (cA, 8, .inl fp))] sz) := by
  refine Met.ofW (cc := b_M_unrank) (maxL := 4) (ret := none) (by decide) rfl ?_
  intro p e s m args below meth c s₁ B hml hv
  obtain ⟨rfl, hsz, hP, hK, hD0⟩ := hv
  have hx := B.exec
  have hb := B.bytes
  have hr := B.returns
  have hlocks := B.notSynchronized
  have hown : s.vm.findClass "RankDeskModel" = some m.cls := findClass_of_methodNamed B.named
  have ht : ∀ w ∈ lw_g, w.before ([.ref h, .int a] : List Value).toArray s = true := fun w hw => atoms_spec (ws := wz_M_unrank) B.pre w (List.mem_cons_of_mem _ hw)
  subst hsz
  have hD := hD0.self (sz := s.heap.size)
  obtain ⟨A, hAe⟩ : ∃ A, A = va_A [(h, .inr (2, [.int (nI n), .ref pa, v2, v3])), (pa, .inl (cA, 8, .inl fp))] s.heap.size := ⟨_, rfl⟩
  rw [← hAe] at hD ⊢
  have hA : ∀ q : Nat, s.heap.size ≤ q → A q := fun q h => by rw [hAe]; exact Or.inr h
  have hS : va_S A s.heap s.heap [] := va_S.rf
  have hP : va_P D classes [(h, .inr (2, [.int (nI n), .ref pa, v2, v3])), (pa, .inl (cA, 8, .inl fp))] s.heap := hP
  obtain ⟨Q, hQ⟩ : ∃ Q, Q = MQ below (va_Qv (fun (u : Nat → Int32) => ∀ k, k < n → u k = nI (pf_dg (pf_un n (zn_pl a (pf_fac n))) k)) (fun u t => wd_T D cA A [(h, .inr (2, [.int (nI n), .ref pa, v2, v3])), (pa, .inl (cA, 8, .inl u))] t) A) ([.ref h, .int a] : List Value).toArray s 0 0 A := ⟨_, rfl⟩
  rw [← hQ]
  have hl := lv_entry ([.ref h, .int a]) (n := 4) (Nat.le_of_ble_eq_true rfl)
  rw [lg_entry_eq]
  generalize (lg_sl ([.ref h, .int a]) ++ List.replicate (4 - (lg_sl ([.ref h, .int a])).length) Slot.unset).toArray = ls at hl ⊢
  have hl : lv_has ls 4 [(0, .ref h), (1, .int a)] := hl
  show W p l e { frames := 1, cells := 0, slots := 0, locals := 26 } s m ([.ref h, .int a] : List Value).toArray below meth c s.heap [] 0 0 Q (F0 m 0 ls [])
  have hf1 := pf_fac_pos n
  have hf2 := pf_fac_le n
  have hC := zn_plt a hf1
  refine lv_iload_n hx hb d_M_unrank_0 rfl (lv_at hl 1 rfl) ?_
  refine lv_ldc hx hb hown (ht _ tv_M_1) d_M_unrank_1 ?_
  refine lv_iand hx hb d_M_unrank_3 ?_
  refine rw_top (zn_max a) ?_
  refine lv_aload_n hx hb d_M_unrank_4 rfl (lv_at hl 0 rfl) ?_
  refine rc_V (As := []) (rest := [.int (nI (a.toBitVec.toNat % 2 ^ 31))]) ⟨hx, hb, hml, hown, ht⟩ (c_M_orders l D cA h (.ref pa) v2 v3 n hn0 hn) mb_M_orders tm_M_orders ts_M_orders tl_M_32 rfl rfl ⟨Nat.le_of_ble_eq_true rfl, Nat.le_of_ble_eq_true rfl⟩ (pr_V (q0 := 0) (ci := 2) (pr_R hP hK [0] rfl) hP hK rfl rfl rfl) rfl hl.1 rfl (Nat.le_of_ble_eq_true rfl) d_M_unrank_5 ⟨Nat.le_of_ble_eq_true rfl, Nat.le_of_ble_eq_true rfl⟩ ?_
  refine rw_irem (r := zn_pl a (pf_fac n)) hx hb d_M_unrank_8 (by omega) (by omega) (by omega) rfl ?_
  refine lv_istore_n (lv' := [(2, .int (nI (zn_pl a (pf_fac n)))), (0, .ref h), (1, .int a)]) hx hb d_M_unrank_9 rfl hl (by decide) rfl (fun ls hl => ?_)
  refine lv_iconst (v := (nI 0)) hx hb d_M_unrank_10 (by decide) ?_
  refine lv_istore_n (lv' := [(3, .int (nI 0)), (2, .int (nI (zn_pl a (pf_fac n)))), (0, .ref h), (1, .int a)]) hx hb d_M_unrank_11 rfl hl (by decide) rfl (fun ls hl => ?_)
  have lb : ∀ (t i : Nat) (g : Nat → Int32) (H : Heap) (locs : List Loc) (ls : Array Slot), i + t = zn_pl a (pf_fac n) → (∀ k, k < n → g k = nI (pf_dg (pf_un n i) k)) → va_P D classes [(h, .inr (2, [.int (nI n), .ref pa, v2, v3])), (pa, .inl (cA, 8, .inl g))] H → va_D A [(h, .inr (2, [.int (nI n), .ref pa, v2, v3])), (pa, .inl (cA, 8, .inl g))] → va_S A s.heap H locs → lv_has ls 4 [(0, .ref h), (2, .int (nI (zn_pl a (pf_fac n)))), (3, .int (nI i))] → W p l e { frames := 1, cells := 0, slots := 0, locals := 26 } s m ([.ref h, .int a] : List Value).toArray below meth c H locs 0 0 Q (F0 m 35 ls []) := by
    intro t
    induction t with
    | zero =>
      intro i g H locs ls hi hg hP hD hS hl
      refine lv_iload_n hx hb d_M_unrank_35 rfl (lv_at hl 2 rfl) ?_
      refine lv_iload_n hx hb d_M_unrank_36 rfl (lv_at hl 1 rfl) ?_
      refine rw_cge (tgt := 55) hx hb d_M_unrank_37 (by decide) (by omega) (by omega) (fun c1 => ?_) (fun c1 => ?_)
      · have hP9 := hP.sub (ws' := [(h, .inr (2, [.int (nI n), .ref pa, v2, v3])), (pa, .inl (cA, 8, .inl g))]) [0, 1] rfl
        have hD9 := hD.sub (ws' := [(h, .inr (2, [.int (nI n), .ref pa, v2, v3])), (pa, .inl (cA, 8, .inl g))]) [0, 1] (by decide) rfl
        rw [hQ]
        exact W.vret hx hb hr (fun t ht hW => ⟨⟨g, rfl, by rw [show zn_pl a (pf_fac n) = i by omega]; exact hg, by rw [ht]; exact hP9, va_K.moved hW.alike hK, hD9⟩, hS.F ht⟩) hS.2.2 d_M_unrank_55
      · exact absurd c1 (by omega)
    | succ t ih =>
      intro i g H locs ls hi hg hP hD hS hl
      have hn2 := pu_nx hn0 hn (show i < pf_fac n by omega)
      have efw : pf_fw n i = i + 1 := if_pos (by omega)
      refine lv_iload_n hx hb d_M_unrank_35 rfl (lv_at hl 2 rfl) ?_
      refine lv_iload_n hx hb d_M_unrank_36 rfl (lv_at hl 1 rfl) ?_
      refine rw_cge (tgt := 55) hx hb d_M_unrank_37 (by decide) (by omega) (by omega) (fun c1 => ?_) (fun c1 => ?_)
      · exact absurd c1 (by omega)
      · refine lv_aload_n hx hb d_M_unrank_40 rfl (lv_at hl 0 rfl) ?_
        refine lv_aload_n hx hb d_M_unrank_41 rfl (lv_at hl 0 rfl) ?_
        refine gf_M_8 hx hb ht hown hK hP 0 rfl d_M_unrank_42 ?_
        refine cl_i (D := D) (cA := cA) (wc := [(h, .inr (2, [.int (nI n), .ref pa, v2, v3])), (pa, .inl (cA, 8, .inl g))]) (wr := []) (w1 := fun u => [(h, .inr (2, [.int (nI n), .ref pa, v2, v3])), (pa, .inl (cA, 8, .inl u))]) (rn_V (As := [.ref pa]) (rest := []) ⟨hx, hb, hml, hown, ht⟩ (c_M_next l D cA H.size h pa (.ref pa) v2 v3 g (pf_dg (pf_un n i)) n hn0 hn (fun k => pf_dg_lt _ _) hg) mb_M_next tm_M_next ts_M_next tl_M_28 rfl rfl ⟨Nat.le_of_ble_eq_true rfl, Nat.le_of_ble_eq_true rfl⟩ (pr_V (q0 := 0) (ci := 2) (pr_Z hP hK hD [0, 1] rfl (by decide) rfl) hP hK rfl rfl rfl) rfl hl.1 rfl (Nat.le_of_ble_eq_true rfl) d_M_unrank_45 ⟨Nat.le_of_ble_eq_true rfl, Nat.le_of_ble_eq_true rfl⟩) hP hD hS hA [0, 1] [] rfl rfl (by decide) (by decide) (fun r_ u_ H locs hw hP hD hS => ?_)
        have hP : va_P D classes [(h, .inr (2, [.int (nI n), .ref pa, v2, v3])), (pa, .inl (cA, 8, .inl u_))] H := hP
        have hD : va_D A [(h, .inr (2, [.int (nI n), .ref pa, v2, v3])), (pa, .inl (cA, 8, .inl u_))] := hD
        obtain ⟨hw1, hw2⟩ := hw
        refine lv_pop hx hb d_M_unrank_48 rfl ?_
        refine lv_iinc (v := (nI (i + 1))) (lv' := [(3, .int (nI (i + 1))), (0, .ref h), (2, .int (nI (zn_pl a (pf_fac n))))]) hx hb d_M_unrank_49 hl (k := 2) rfl (nI_add i 1) (by decide) rfl (fun ls hl => ?_)
        refine lv_goto (tgt := 35) hx hb d_M_unrank_52 (by decide) ?_
        exact ih (i + 1) u_ H locs ls (by omega) (fun k hk => by rw [hw2 k hk, hn2.2 k hk, efw]) hP hD hS (lv_sub hl [1, 2, 0] rfl)
  have la : ∀ (t i : Nat) (g : Nat → Int32) (H : Heap) (locs : List Loc) (ls : Array Slot), i + t = n → (∀ j, j < i → g j = nI j) → va_P D classes [(h, .inr (2, [.int (nI n), .ref pa, v2, v3])), (pa, .inl (cA, 8, .inl g))] H → va_D A [(h, .inr (2, [.int (nI n), .ref pa, v2, v3])), (pa, .inl (cA, 8, .inl g))] → va_S A s.heap H locs → lv_has ls 4 [(0, .ref h), (2, .int (nI (zn_pl a (pf_fac n)))), (3, .int (nI i))] → W p l e { frames := 1, cells := 0, slots := 0, locals := 26 } s m ([.ref h, .int a] : List Value).toArray below meth c H locs 0 0 Q (F0 m 12 ls []) := by
    intro t
    induction t with
    | zero =>
      intro i g H locs ls hi hg hP hD hS hl
      refine lv_iload_n hx hb d_M_unrank_12 rfl (lv_at hl 2 rfl) ?_
      refine lv_aload_n hx hb d_M_unrank_13 rfl (lv_at hl 0 rfl) ?_
      refine gf_M_2 hx hb ht hown hK hP 0 rfl d_M_unrank_14 ?_
      refine rw_cge (tgt := 33) hx hb d_M_unrank_17 (by decide) (by omega) (by omega) (fun c1 => ?_) (fun c1 => ?_)
      · refine lv_iconst (v := (nI 0)) hx hb d_M_unrank_33 (by decide) ?_
        refine lv_istore_n (lv' := [(3, .int (nI 0)), (0, .ref h), (2, .int (nI (zn_pl a (pf_fac n))))]) hx hb d_M_unrank_34 rfl hl (by decide) rfl (fun ls hl => ?_)
        exact lb (zn_pl a (pf_fac n)) 0 g H locs ls (by omega) (fun k hk => by rw [hg k (by omega), pu_id hn0 hn hk]) hP hD hS (lv_sub hl [1, 2, 0] rfl)
      · exact absurd c1 (by omega)
    | succ t ih =>
      intro i g H locs ls hi hg hP hD hS hl
      refine lv_iload_n hx hb d_M_unrank_12 rfl (lv_at hl 2 rfl) ?_
      refine lv_aload_n hx hb d_M_unrank_13 rfl (lv_at hl 0 rfl) ?_
      refine gf_M_2 hx hb ht hown hK hP 0 rfl d_M_unrank_14 ?_
      refine rw_cge (tgt := 33) hx hb d_M_unrank_17 (by decide) (by omega) (by omega) (fun c1 => ?_) (fun c1 => ?_)
      · exact absurd c1 (by omega)
      · refine lv_aload_n hx hb d_M_unrank_20 rfl (lv_at hl 0 rfl) ?_
        refine gf_M_8 hx hb ht hown hK hP 0 rfl d_M_unrank_21 ?_
        refine lv_iload_n hx hb d_M_unrank_24 rfl (lv_at hl 2 rfl) ?_
        refine lv_iload_n hx hb d_M_unrank_25 rfl (lv_at hl 2 rfl) ?_
        refine rw_iast (k := i) hx hb hK hP hD hS 1 rfl (by omega) (by omega) d_M_unrank_26 (fun H locs hP hD hS => ?_)
        have hP : va_P D classes [(h, .inr (2, [.int (nI n), .ref pa, v2, v3])), (pa, .inl (cA, 8, .inl (upd g i ((nI i)))))] H := hP
        have hD : va_D A [(h, .inr (2, [.int (nI n), .ref pa, v2, v3])), (pa, .inl (cA, 8, .inl (upd g i ((nI i)))))] := hD
        refine lv_iinc (v := (nI (i + 1))) (lv' := [(3, .int (nI (i + 1))), (0, .ref h), (2, .int (nI (zn_pl a (pf_fac n))))]) hx hb d_M_unrank_27 hl (k := 2) rfl (nI_add i 1) (by decide) rfl (fun ls hl => ?_)
        refine lv_goto (tgt := 12) hx hb d_M_unrank_30 (by decide) ?_
        exact ih (i + 1) (upd g i (nI i)) H locs ls (by omega) (up_st (E := fun j => j) hg) hP hD hS (lv_sub hl [1, 2, 0] rfl)
  exact la n 0 fp s.heap [] ls (by omega) (fun j hj => absurd hj (Nat.not_lt_zero j)) hP hD hS (lv_sub hl [2, 1, 0] rfl)
set_option maxHeartbeats 4000000 in
set_option maxRecDepth 100000 in
/-- RankDeskModel.rank -/
theorem c_M_rank (l : Launch) (D : va_G) (cA : ClassId) (sz h pa qa : Nat) (v3 : Value) (fp fq : Nat → Int32) (n r : Nat) (hn0 : 1 ≤ n) (hn : n ≤ 7) (hr0 : r < pf_fac n) (hfp : ∀ k, k < n → fp k = nI (pf_dg (pf_un n r) k)) : Met l y_M_rank wz_M_rank { frames := 1, cells := 0, slots := 0, locals := 26 } (va_Pc [.ref h] (wd_Z D cA sz [(h, .inr (2, [.int (nI n), .ref pa, .ref qa, v3])), (pa, .inl (cA, 8, .inl fp)), (qa, .inl (cA, 8, .inl fq))])) (va_Qi (fun (r_ : Int32) (u : Nat → Int32) => r_ = nI r) (fun u t => wd_T D cA (va_A [(h, .inr (2, [.int (nI n), .ref pa, .ref qa, v3])), (pa, .inl (cA, 8, .inl fp)), (qa, .inl (cA, 8, .inl fq))] sz) [(h, .inr (2, [.int (nI n), .ref pa, .ref qa, v3])), (pa, .inl (cA, 8, .inl fp)), (qa, .inl (cA, 8, .inl u))] t) (va_A [(h, .inr (2, [.int (nI n), .ref pa, .ref qa, v3])), (pa, .inl (cA, 8, .inl fp)), (qa, .inl (cA, 8, .inl fq))] sz)) 0 0 (va_A [(h, .inr (2, [.int (nI n), .ref pa, .ref qa, v3])), (pa, .inl (cA, 8, .inl fp)), (qa, .inl (cA, 8, .inl fq))] sz) := by
  refine Met.ofW (cc := b_M_rank) (maxL := 4) (ret := (some .int)) (by decide) rfl ?_
  intro p e s m args below meth c s₁ B hml hv
  obtain ⟨rfl, hsz, hP, hK, hD0⟩ := hv
  have hx := B.exec
  have hb := B.bytes
  have hr := B.returns
  have hlocks := B.notSynchronized
  have hown : s.vm.findClass "RankDeskModel" = some m.cls := findClass_of_methodNamed B.named
  have ht : ∀ w ∈ lw_g, w.before ([.ref h] : List Value).toArray s = true := fun w hw => atoms_spec (ws := wz_M_rank) B.pre w (List.mem_cons_of_mem _ hw)
  subst hsz
  have hD := hD0.self (sz := s.heap.size)
  obtain ⟨A, hAe⟩ : ∃ A, A = va_A [(h, .inr (2, [.int (nI n), .ref pa, .ref qa, v3])), (pa, .inl (cA, 8, .inl fp)), (qa, .inl (cA, 8, .inl fq))] s.heap.size := ⟨_, rfl⟩
  rw [← hAe] at hD ⊢
  have hA : ∀ q : Nat, s.heap.size ≤ q → A q := fun q h => by rw [hAe]; exact Or.inr h
  have hS : va_S A s.heap s.heap [] := va_S.rf
  have hP : va_P D classes [(h, .inr (2, [.int (nI n), .ref pa, .ref qa, v3])), (pa, .inl (cA, 8, .inl fp)), (qa, .inl (cA, 8, .inl fq))] s.heap := hP
  obtain ⟨Q, hQ⟩ : ∃ Q, Q = MQ below (va_Qi (fun (r_ : Int32) (u : Nat → Int32) => r_ = nI r) (fun u t => wd_T D cA A [(h, .inr (2, [.int (nI n), .ref pa, .ref qa, v3])), (pa, .inl (cA, 8, .inl fp)), (qa, .inl (cA, 8, .inl u))] t) A) ([.ref h] : List Value).toArray s 0 0 A := ⟨_, rfl⟩
  rw [← hQ]
  have hl := lv_entry ([.ref h]) (n := 4) (Nat.le_of_ble_eq_true rfl)
  rw [lg_entry_eq]
  generalize (lg_sl ([.ref h]) ++ List.replicate (4 - (lg_sl ([.ref h])).length) Slot.unset).toArray = ls at hl ⊢
  have hl : lv_has ls 4 [(0, .ref h)] := hl
  show W p l e { frames := 1, cells := 0, slots := 0, locals := 26 } s m ([.ref h] : List Value).toArray below meth c s.heap [] 0 0 Q (F0 m 0 ls [])
  have hf2 := pf_fac_le n
  have li : ∀ (t k c0 : Nat) (g : Nat → Int32) (H : Heap) (locs : List Loc) (ls : Array Slot), k + t = n → (∀ j, j < n → g j = nI (pf_dg (pf_un n c0) j)) → (∀ ls : Array Slot, lv_has ls 4 [(0, .ref h), (1, .int (nI c0)), (2, .int (nI (pf_eqs n c0 r n).toNat))] → W p l e { frames := 1, cells := 0, slots := 0, locals := 26 } s m ([.ref h] : List Value).toArray below meth c H locs 0 0 Q (F0 m 74 ls [])) → va_P D classes [(h, .inr (2, [.int (nI n), .ref pa, .ref qa, v3])), (pa, .inl (cA, 8, .inl fp)), (qa, .inl (cA, 8, .inl g))] H → va_D A [(h, .inr (2, [.int (nI n), .ref pa, .ref qa, v3])), (pa, .inl (cA, 8, .inl fp)), (qa, .inl (cA, 8, .inl g))] → va_S A s.heap H locs → lv_has ls 4 [(0, .ref h), (1, .int (nI c0)), (2, .int (nI ((pf_eqs n c0 r k).toNat))), (3, .int (nI k))] → W p l e { frames := 1, cells := 0, slots := 0, locals := 26 } s m ([.ref h] : List Value).toArray below meth c H locs 0 0 Q (F0 m 35 ls []) := by
    intro t
    induction t with
    | zero =>
      intro k c0 g H locs ls hk hg ex hP hD hS hl
      refine lv_iload_n hx hb d_M_rank_35 rfl (lv_at hl 3 rfl) ?_
      refine lv_aload_n hx hb d_M_rank_36 rfl (lv_at hl 0 rfl) ?_
      refine gf_M_2 hx hb ht hown hK hP 0 rfl d_M_rank_37 ?_
      refine rw_cge (tgt := 74) hx hb d_M_rank_40 (by decide) (by omega) (by omega) (fun c1 => ?_) (fun c1 => ?_)
      · rw [show k = n by omega] at hl
        exact ex ls (lv_sub hl [0, 1, 2] rfl)
      · exact absurd c1 (by omega)
    | succ t ih =>
      intro k c0 g H locs ls hk hg ex hP hD hS hl
      have hb1 := bt_le (pf_eqs n c0 r k)
      have hq8 := pf_dg_lt (pf_un n c0) k
      have hp8 := pf_dg_lt (pf_un n r) k
      refine lv_iload_n hx hb d_M_rank_35 rfl (lv_at hl 3 rfl) ?_
      refine lv_aload_n hx hb d_M_rank_36 rfl (lv_at hl 0 rfl) ?_
      refine gf_M_2 hx hb ht hown hK hP 0 rfl d_M_rank_37 ?_
      refine rw_cge (tgt := 74) hx hb d_M_rank_40 (by decide) (by omega) (by omega) (fun c1 => ?_) (fun c1 => ?_)
      · exact absurd c1 (by omega)
      · refine lv_iload_n hx hb d_M_rank_43 rfl (lv_at hl 2 rfl) ?_
        refine rw_zeq (tgt := 66) hx hb d_M_rank_44 (by decide) (by omega) (fun c2 => ?_) (fun c2 => ?_)
        · refine lv_iconst (v := (nI 0)) hx hb d_M_rank_66 (by decide) ?_
          refine lv_istore_n (lv' := [(2, .int (nI 0)), (0, .ref h), (1, .int (nI c0)), (3, .int (nI k))]) hx hb d_M_rank_67 rfl hl (by decide) rfl (fun ls hl => ?_)
          refine lv_iinc (v := (nI (k + 1))) (lv' := [(3, .int (nI (k + 1))), (2, .int (nI 0)), (0, .ref h), (1, .int (nI c0))]) hx hb d_M_rank_68 hl (k := 3) rfl (nI_add k 1) (by decide) rfl (fun ls hl => ?_)
          refine lv_goto (tgt := 35) hx hb d_M_rank_71 (by decide) ?_
          have e1 : (pf_eqs n c0 r (k + 1)).toNat = 0 := bt_0 c2
          refine ih (k + 1) c0 g H locs ls (by omega) hg ex hP hD hS ?_
          rw [e1]
          exact (lv_sub hl [2, 3, 1, 0] rfl)
        · refine lv_aload_n hx hb d_M_rank_47 rfl (lv_at hl 0 rfl) ?_
          refine gf_M_18 hx hb ht hown hK hP 0 rfl d_M_rank_48 ?_
          refine lv_iload_n hx hb d_M_rank_51 rfl (lv_at hl 3 rfl) ?_
          refine rw_iald (v := (nI (pf_dg (pf_un n c0) k))) hx hb hK hP 2 rfl (by omega) (by omega) (hg _ (by omega)) d_M_rank_52 ?_
          refine lv_aload_n hx hb d_M_rank_53 rfl (lv_at hl 0 rfl) ?_
          refine gf_M_8 hx hb ht hown hK hP 0 rfl d_M_rank_54 ?_
          refine lv_iload_n hx hb d_M_rank_57 rfl (lv_at hl 3 rfl) ?_
          refine rw_iald (v := (nI (pf_dg (pf_un n r) k))) hx hb hK hP 1 rfl (by omega) (by omega) (hfp _ (by omega)) d_M_rank_58 ?_
          refine rw_cne (tgt := 66) hx hb d_M_rank_59 (by decide) (by omega) (by omega) (fun c3 => ?_) (fun c3 => ?_)
          · refine lv_iconst (v := (nI 0)) hx hb d_M_rank_66 (by decide) ?_
            refine lv_istore_n (lv' := [(2, .int (nI 0)), (0, .ref h), (1, .int (nI c0)), (3, .int (nI k))]) hx hb d_M_rank_67 rfl hl (by decide) rfl (fun ls hl => ?_)
            refine lv_iinc (v := (nI (k + 1))) (lv' := [(3, .int (nI (k + 1))), (2, .int (nI 0)), (0, .ref h), (1, .int (nI c0))]) hx hb d_M_rank_68 hl (k := 3) rfl (nI_add k 1) (by decide) rfl (fun ls hl => ?_)
            refine lv_goto (tgt := 35) hx hb d_M_rank_71 (by decide) ?_
            have e1 : (pf_eqs n c0 r (k + 1)).toNat = 0 := bt_n (nb_ne c3)
            refine ih (k + 1) c0 g H locs ls (by omega) hg ex hP hD hS ?_
            rw [e1]
            exact (lv_sub hl [2, 3, 1, 0] rfl)
          · refine lv_iconst (v := (nI 1)) hx hb d_M_rank_62 (by decide) ?_
            refine lv_goto (tgt := 67) hx hb d_M_rank_63 (by decide) ?_
            refine lv_istore_n (lv' := [(2, .int (nI 1)), (0, .ref h), (1, .int (nI c0)), (3, .int (nI k))]) hx hb d_M_rank_67 rfl hl (by decide) rfl (fun ls hl => ?_)
            refine lv_iinc (v := (nI (k + 1))) (lv' := [(3, .int (nI (k + 1))), (2, .int (nI 1)), (0, .ref h), (1, .int (nI c0))]) hx hb d_M_rank_68 hl (k := 3) rfl (nI_add k 1) (by decide) rfl (fun ls hl => ?_)
            refine lv_goto (tgt := 35) hx hb d_M_rank_71 (by decide) ?_
            have e1 : (pf_eqs n c0 r (k + 1)).toNat = 1 := bt_1 c2 (nb_eq c3)
            refine ih (k + 1) c0 g H locs ls (by omega) hg ex hP hD hS ?_
            rw [e1]
            exact (lv_sub hl [2, 3, 1, 0] rfl)
  have lb : ∀ (t c0 : Nat) (g : Nat → Int32) (H : Heap) (locs : List Loc) (ls : Array Slot), c0 + t = r → (∀ k, k < n → g k = nI (pf_dg (pf_un n c0) k)) → va_P D classes [(h, .inr (2, [.int (nI n), .ref pa, .ref qa, v3])), (pa, .inl (cA, 8, .inl fp)), (qa, .inl (cA, 8, .inl g))] H → va_D A [(h, .inr (2, [.int (nI n), .ref pa, .ref qa, v3])), (pa, .inl (cA, 8, .inl fp)), (qa, .inl (cA, 8, .inl g))] → va_S A s.heap H locs → lv_has ls 4 [(0, .ref h), (1, .int (nI c0)), (2, .int (nI 0))] → W p l e { frames := 1, cells := 0, slots := 0, locals := 26 } s m ([.ref h] : List Value).toArray below meth c H locs 0 0 Q (F0 m 27 ls []) := by
    intro t
    induction t with
    | zero =>
      intro c0 g H locs ls hc hg hP hD hS hl
      refine lv_iload_n hx hb d_M_rank_27 rfl (lv_at hl 2 rfl) ?_
      refine rw_zne (tgt := 94) hx hb d_M_rank_28 (by decide) (by omega) (fun c1 => ?_) (fun c1 => ?_)
      · exact absurd rfl c1
      · refine lv_iconst (v := (nI 1)) hx hb d_M_rank_31 (by decide) ?_
        refine lv_istore_n (lv' := [(2, .int (nI 1)), (0, .ref h), (1, .int (nI c0))]) hx hb d_M_rank_32 rfl hl (by decide) rfl (fun ls hl => ?_)
        refine lv_iconst (v := (nI 0)) hx hb d_M_rank_33 (by decide) ?_
        refine lv_istore_n (lv' := [(3, .int (nI 0)), (2, .int (nI 1)), (0, .ref h), (1, .int (nI c0))]) hx hb d_M_rank_34 rfl hl (by decide) rfl (fun ls hl => ?_)
        refine li n 0 c0 g H locs ls (by omega) hg (fun ls hl => ?_) hP hD hS (lv_sub hl [2, 3, 1, 0] rfl)
        obtain rfl : c0 = r := by omega
        rw [pf_eqs_t] at hl
        have hl : lv_has ls 4 [(0, .ref h), (1, .int (nI c0)), (2, .int (nI 1))] := hl
        refine lv_iload_n hx hb d_M_rank_74 rfl (lv_at hl 2 rfl) ?_
        refine rw_zne (tgt := 27) hx hb d_M_rank_75 (by decide) (by omega) (fun c2 => ?_) (fun c2 => ?_)
        · refine lv_iload_n hx hb d_M_rank_27 rfl (lv_at hl 2 rfl) ?_
          refine rw_zne (tgt := 94) hx hb d_M_rank_28 (by decide) (by omega) (fun c3 => ?_) (fun c3 => ?_)
          · refine lv_iload_n hx hb d_M_rank_94 rfl (lv_at hl 1 rfl) ?_
            have hP9 := hP.sub (ws' := [(h, .inr (2, [.int (nI n), .ref pa, .ref qa, v3])), (pa, .inl (cA, 8, .inl fp)), (qa, .inl (cA, 8, .inl g))]) [0, 1, 2] rfl
            have hD9 := hD.sub (ws' := [(h, .inr (2, [.int (nI n), .ref pa, .ref qa, v3])), (pa, .inl (cA, 8, .inl fp)), (qa, .inl (cA, 8, .inl g))]) [0, 1, 2] (by decide) rfl
            rw [hQ]
            exact W.iret (v := (nI c0)) hx hb hr (fun t ht hW => ⟨⟨(nI c0), g, rfl, rfl, by rw [ht]; exact hP9, va_K.moved hW.alike hK, hD9⟩, hS.F ht⟩) hS.2.2 d_M_rank_95
          · exact absurd c3 (by decide)
        · exact absurd c2 (by decide)
    | succ t ih =>
      intro c0 g H locs ls hc hg hP hD hS hl
      refine lv_iload_n hx hb d_M_rank_27 rfl (lv_at hl 2 rfl) ?_
      refine rw_zne (tgt := 94) hx hb d_M_rank_28 (by decide) (by omega) (fun c1 => ?_) (fun c1 => ?_)
      · exact absurd rfl c1
      · refine lv_iconst (v := (nI 1)) hx hb d_M_rank_31 (by decide) ?_
        refine lv_istore_n (lv' := [(2, .int (nI 1)), (0, .ref h), (1, .int (nI c0))]) hx hb d_M_rank_32 rfl hl (by decide) rfl (fun ls hl => ?_)
        refine lv_iconst (v := (nI 0)) hx hb d_M_rank_33 (by decide) ?_
        refine lv_istore_n (lv' := [(3, .int (nI 0)), (2, .int (nI 1)), (0, .ref h), (1, .int (nI c0))]) hx hb d_M_rank_34 rfl hl (by decide) rfl (fun ls hl => ?_)
        refine li n 0 c0 g H locs ls (by omega) hg (fun ls hl => ?_) hP hD hS (lv_sub hl [2, 3, 1, 0] rfl)
        have hn2 := pu_nx hn0 hn (show c0 < pf_fac n by omega)
        have efw : pf_fw n c0 = c0 + 1 := if_pos (by omega)
        rw [pf_eqs_f hn0 hn hr0 (show c0 < r by omega)] at hl
        have hl : lv_has ls 4 [(0, .ref h), (1, .int (nI c0)), (2, .int (nI 0))] := hl
        refine lv_iload_n hx hb d_M_rank_74 rfl (lv_at hl 2 rfl) ?_
        refine rw_zne (tgt := 27) hx hb d_M_rank_75 (by decide) (by omega) (fun c2 => ?_) (fun c2 => ?_)
        · exact absurd rfl c2
        · refine lv_aload_n hx hb d_M_rank_78 rfl (lv_at hl 0 rfl) ?_
          refine lv_aload_n hx hb d_M_rank_79 rfl (lv_at hl 0 rfl) ?_
          refine gf_M_18 hx hb ht hown hK hP 0 rfl d_M_rank_80 ?_
          refine cl_i (D := D) (cA := cA) (wc := [(h, .inr (2, [.int (nI n), .ref pa, .ref qa, v3])), (qa, .inl (cA, 8, .inl g))]) (wr := [(pa, .inl (cA, 8, .inl fp))]) (w1 := fun u => [(h, .inr (2, [.int (nI n), .ref pa, .ref qa, v3])), (qa, .inl (cA, 8, .inl u))]) (rn_V (As := [.ref qa]) (rest := []) ⟨hx, hb, hml, hown, ht⟩ (c_M_next l D cA H.size h qa (.ref pa) (.ref qa) v3 g (pf_dg (pf_un n c0)) n hn0 hn (fun k => pf_dg_lt _ _) hg) mb_M_next tm_M_next ts_M_next tl_M_28 rfl rfl ⟨Nat.le_of_ble_eq_true rfl, Nat.le_of_ble_eq_true rfl⟩ (pr_V (q0 := 0) (ci := 2) (pr_Z hP hK hD [0, 2] rfl (by decide) rfl) hP hK rfl rfl rfl) rfl hl.1 rfl (Nat.le_of_ble_eq_true rfl) d_M_rank_83 ⟨Nat.le_of_ble_eq_true rfl, Nat.le_of_ble_eq_true rfl⟩) hP hD hS hA [0, 2] [1] rfl rfl (by decide) (by decide) (fun r_ u_ H locs hw hP hD hS => ?_)
          have hP : va_P D classes [(pa, .inl (cA, 8, .inl fp)), (h, .inr (2, [.int (nI n), .ref pa, .ref qa, v3])), (qa, .inl (cA, 8, .inl u_))] H := hP
          have hD : va_D A [(pa, .inl (cA, 8, .inl fp)), (h, .inr (2, [.int (nI n), .ref pa, .ref qa, v3])), (qa, .inl (cA, 8, .inl u_))] := hD
          obtain ⟨hw1, hw2⟩ := hw
          refine lv_pop hx hb d_M_rank_86 rfl ?_
          refine lv_iload_n hx hb d_M_rank_87 rfl (lv_at hl 1 rfl) ?_
          refine lv_iconst (v := (nI 1)) hx hb d_M_rank_88 (by decide) ?_
          refine rw_iadd (r := c0 + 1) hx hb d_M_rank_89 rfl ?_
          refine lv_istore_n (lv' := [(1, .int (nI (c0 + 1))), (0, .ref h), (2, .int (nI 0))]) hx hb d_M_rank_90 rfl hl (by decide) rfl (fun ls hl => ?_)
          refine lv_goto (tgt := 27) hx hb d_M_rank_91 (by decide) ?_
          exact ih (c0 + 1) u_ H locs ls (by omega) (fun k hk => by rw [hw2 k hk, hn2.2 k hk, efw]) (hP.sub [1, 0, 2] rfl) (hD.sub [1, 0, 2] (by decide) rfl) hS (lv_sub hl [1, 0, 2] rfl)
  have la : ∀ (t i : Nat) (g : Nat → Int32) (H : Heap) (locs : List Loc) (ls : Array Slot), i + t = n → (∀ j, j < i → g j = nI j) → va_P D classes [(h, .inr (2, [.int (nI n), .ref pa, .ref qa, v3])), (pa, .inl (cA, 8, .inl fp)), (qa, .inl (cA, 8, .inl g))] H → va_D A [(h, .inr (2, [.int (nI n), .ref pa, .ref qa, v3])), (pa, .inl (cA, 8, .inl fp)), (qa, .inl (cA, 8, .inl g))] → va_S A s.heap H locs → lv_has ls 4 [(0, .ref h), (1, .int (nI i))] → W p l e { frames := 1, cells := 0, slots := 0, locals := 26 } s m ([.ref h] : List Value).toArray below meth c H locs 0 0 Q (F0 m 2 ls []) := by
    intro t
    induction t with
    | zero =>
      intro i g H locs ls hi hg hP hD hS hl
      refine lv_iload_n hx hb d_M_rank_2 rfl (lv_at hl 1 rfl) ?_
      refine lv_aload_n hx hb d_M_rank_3 rfl (lv_at hl 0 rfl) ?_
      refine gf_M_2 hx hb ht hown hK hP 0 rfl d_M_rank_4 ?_
      refine rw_cge (tgt := 23) hx hb d_M_rank_7 (by decide) (by omega) (by omega) (fun c1 => ?_) (fun c1 => ?_)
      · refine lv_iconst (v := (nI 0)) hx hb d_M_rank_23 (by decide) ?_
        refine lv_istore_n (lv' := [(1, .int (nI 0)), (0, .ref h)]) hx hb d_M_rank_24 rfl hl (by decide) rfl (fun ls hl => ?_)
        refine lv_iconst (v := (nI 0)) hx hb d_M_rank_25 (by decide) ?_
        refine lv_istore_n (lv' := [(2, .int (nI 0)), (1, .int (nI 0)), (0, .ref h)]) hx hb d_M_rank_26 rfl hl (by decide) rfl (fun ls hl => ?_)
        exact lb r 0 g H locs ls (by omega) (fun k hk => by rw [hg k (by omega), pu_id hn0 hn hk]) hP hD hS (lv_sub hl [2, 1, 0] rfl)
      · exact absurd c1 (by omega)
    | succ t ih =>
      intro i g H locs ls hi hg hP hD hS hl
      refine lv_iload_n hx hb d_M_rank_2 rfl (lv_at hl 1 rfl) ?_
      refine lv_aload_n hx hb d_M_rank_3 rfl (lv_at hl 0 rfl) ?_
      refine gf_M_2 hx hb ht hown hK hP 0 rfl d_M_rank_4 ?_
      refine rw_cge (tgt := 23) hx hb d_M_rank_7 (by decide) (by omega) (by omega) (fun c1 => ?_) (fun c1 => ?_)
      · exact absurd c1 (by omega)
      · refine lv_aload_n hx hb d_M_rank_10 rfl (lv_at hl 0 rfl) ?_
        refine gf_M_18 hx hb ht hown hK hP 0 rfl d_M_rank_11 ?_
        refine lv_iload_n hx hb d_M_rank_14 rfl (lv_at hl 1 rfl) ?_
        refine lv_iload_n hx hb d_M_rank_15 rfl (lv_at hl 1 rfl) ?_
        refine rw_iast (k := i) hx hb hK hP hD hS 2 rfl (by omega) (by omega) d_M_rank_16 (fun H locs hP hD hS => ?_)
        have hP : va_P D classes [(h, .inr (2, [.int (nI n), .ref pa, .ref qa, v3])), (pa, .inl (cA, 8, .inl fp)), (qa, .inl (cA, 8, .inl (upd g i ((nI i)))))] H := hP
        have hD : va_D A [(h, .inr (2, [.int (nI n), .ref pa, .ref qa, v3])), (pa, .inl (cA, 8, .inl fp)), (qa, .inl (cA, 8, .inl (upd g i ((nI i)))))] := hD
        refine lv_iinc (v := (nI (i + 1))) (lv' := [(1, .int (nI (i + 1))), (0, .ref h)]) hx hb d_M_rank_17 hl (k := 1) rfl (nI_add i 1) (by decide) rfl (fun ls hl => ?_)
        refine lv_goto (tgt := 2) hx hb d_M_rank_20 (by decide) ?_
        exact ih (i + 1) (upd g i (nI i)) H locs ls (by omega) (up_st (E := fun j => j) hg) hP hD hS (lv_sub hl [1, 0] rfl)
  refine lv_iconst (v := (nI 0)) hx hb d_M_rank_0 (by decide) ?_
  refine lv_istore_n (lv' := [(1, .int (nI 0)), (0, .ref h)]) hx hb d_M_rank_1 rfl hl (by decide) rfl (fun ls hl => ?_)
  exact la n 0 fq s.heap [] ls (by omega) (fun j hj => absurd hj (Nat.not_lt_zero j)) hP hD hS (lv_sub hl [1, 0] rfl)
set_option maxHeartbeats 4000000 in
set_option maxRecDepth 100000 in
/-- RankDeskModel.inversions -/
theorem c_M_inversions (l : Launch) (D : va_G) (cA : ClassId) (h pa : Nat) (v2 v3 : Value) (fp : Nat → Int32) (P : Nat → Nat) (n : Nat) (hn0 : 1 ≤ n) (hn : n ≤ 7) (hP8 : ∀ k, P k < 8) (hfp : ∀ k, k < n → fp k = nI (P k)) : Met l y_M_inversions wz_M_inversions { frames := 0, cells := 0, slots := 0, locals := 0 } (va_Pc [.ref h] (wd_R D cA [(h, .inr (2, [.int (nI n), .ref pa, v2, v3])), (pa, .inl (cA, 8, .inl fp))])) (QcRead (nI (pf_io P n))) 0 0 (fun _ => False) := by
  refine Met.ofW (cc := b_M_inversions) (maxL := 4) (ret := (some .int)) (by decide) rfl ?_
  intro p e s m args below meth c s₁ B hml hv
  obtain ⟨rfl, hP, hK⟩ := hv
  have hx := B.exec
  have hb := B.bytes
  have hr := B.returns
  have hlocks := B.notSynchronized
  have hown : s.vm.findClass "RankDeskModel" = some m.cls := findClass_of_methodNamed B.named
  have ht : ∀ w ∈ lw_g, w.before ([.ref h] : List Value).toArray s = true := fun w hw => atoms_spec (ws := wz_M_inversions) B.pre w (List.mem_cons_of_mem _ hw)
  obtain ⟨Q, hQ⟩ : ∃ Q, Q = MQ below (QcRead (nI (pf_io P n))) ([.ref h] : List Value).toArray s 0 0 (fun _ => False) := ⟨_, rfl⟩
  rw [← hQ]
  have hl := lv_entry ([.ref h]) (n := 4) (Nat.le_of_ble_eq_true rfl)
  rw [lg_entry_eq]
  generalize (lg_sl ([.ref h]) ++ List.replicate (4 - (lg_sl ([.ref h])).length) Slot.unset).toArray = ls at hl ⊢
  have hl : lv_has ls 4 [(0, .ref h)] := hl
  show W p l e { frames := 0, cells := 0, slots := 0, locals := 0 } s m ([.ref h] : List Value).toArray below meth c s.heap [] 0 0 Q (F0 m 0 ls [])
  have lp : ∀ (t i : Nat) (ls : Array Slot), i + t = n → lv_has ls 4 [(0, .ref h), (1, .int (nI (pf_io P i))), (2, .int (nI i))] → W p l e { frames := 0, cells := 0, slots := 0, locals := 0 } s m ([.ref h] : List Value).toArray below meth c s.heap [] 0 0 Q (F0 m 4 ls []) := by
    intro t
    induction t with
    | zero =>
      intro i ls hi hl
      refine lv_iload_n hx hb d_M_inversions_4 rfl (lv_at hl 2 rfl) ?_
      refine lv_aload_n hx hb d_M_inversions_5 rfl (lv_at hl 0 rfl) ?_
      refine gf_M_2 hx hb ht hown hK hP 0 rfl d_M_inversions_6 ?_
      refine rw_cge (tgt := 50) hx hb d_M_inversions_9 (by decide) (by omega) (by omega) (fun c1 => ?_) (fun c1 => ?_)
      · refine lv_iload_n hx hb d_M_inversions_50 rfl (lv_at hl 1 rfl) ?_
        refine rw_top (y := (nI (pf_io P n))) (by rw [show i = n by omega]) ?_
        rw [hQ]
        exact W.iret (v := (nI (pf_io P n))) hx hb hr (fun t ht _ => ⟨rfl, ht⟩) (fun q h => by cases h) d_M_inversions_51
      · exact absurd c1 (by omega)
    | succ t ih =>
      intro i ls hi hl
      have hpi := hP8 i
      refine lv_iload_n hx hb d_M_inversions_4 rfl (lv_at hl 2 rfl) ?_
      refine lv_aload_n hx hb d_M_inversions_5 rfl (lv_at hl 0 rfl) ?_
      refine gf_M_2 hx hb ht hown hK hP 0 rfl d_M_inversions_6 ?_
      refine rw_cge (tgt := 50) hx hb d_M_inversions_9 (by decide) (by omega) (by omega) (fun c1 => ?_) (fun c1 => ?_)
      · exact absurd c1 (by omega)
      · refine lv_iconst (v := (nI 0)) hx hb d_M_inversions_12 (by decide) ?_
        refine lv_istore_n (lv' := [(3, .int (nI 0)), (0, .ref h), (1, .int (nI (pf_io P i))), (2, .int (nI i))]) hx hb d_M_inversions_13 rfl hl (by decide) rfl (fun ls hl => ?_)
        have lq : ∀ (u j : Nat) (ls : Array Slot), j + u = i → lv_has ls 4 [(0, .ref h), (1, .int (nI (pf_io P i + pf_ij P i j))), (2, .int (nI i)), (3, .int (nI j))] → W p l e { frames := 0, cells := 0, slots := 0, locals := 0 } s m ([.ref h] : List Value).toArray below meth c s.heap [] 0 0 Q (F0 m 14 ls []) := by
          intro u
          induction u with
          | zero =>
            intro j ls hj hl
            refine lv_iload_n hx hb d_M_inversions_14 rfl (lv_at hl 3 rfl) ?_
            refine lv_iload_n hx hb d_M_inversions_15 rfl (lv_at hl 2 rfl) ?_
            refine rw_cge (tgt := 44) hx hb d_M_inversions_16 (by decide) (by omega) (by omega) (fun c2 => ?_) (fun c2 => ?_)
            · obtain rfl : j = i := by omega
              refine lv_iinc (v := (nI (j + 1))) (lv' := [(2, .int (nI (j + 1))), (0, .ref h), (1, .int (nI (pf_io P j + pf_ij P j j))), (3, .int (nI j))]) hx hb d_M_inversions_44 hl (k := 2) rfl (nI_add j 1) (by decide) rfl (fun ls hl => ?_)
              refine lv_goto (tgt := 4) hx hb d_M_inversions_47 (by decide) ?_
              exact ih (j + 1) ls (by omega) (lv_sub hl [1, 2, 0] rfl)
            · exact absurd c2 (by omega)
          | succ u ihu =>
            intro j ls hj hl
            have hpj := hP8 j
            refine lv_iload_n hx hb d_M_inversions_14 rfl (lv_at hl 3 rfl) ?_
            refine lv_iload_n hx hb d_M_inversions_15 rfl (lv_at hl 2 rfl) ?_
            refine rw_cge (tgt := 44) hx hb d_M_inversions_16 (by decide) (by omega) (by omega) (fun c2 => ?_) (fun c2 => ?_)
            · exact absurd c2 (by omega)
            · refine lv_aload_n hx hb d_M_inversions_19 rfl (lv_at hl 0 rfl) ?_
              refine gf_M_8 hx hb ht hown hK hP 0 rfl d_M_inversions_20 ?_
              refine lv_iload_n hx hb d_M_inversions_23 rfl (lv_at hl 3 rfl) ?_
              refine rw_iald (v := (nI (P j))) hx hb hK hP 1 rfl (by omega) (by omega) (hfp _ (by omega)) d_M_inversions_24 ?_
              refine lv_aload_n hx hb d_M_inversions_25 rfl (lv_at hl 0 rfl) ?_
              refine gf_M_8 hx hb ht hown hK hP 0 rfl d_M_inversions_26 ?_
              refine lv_iload_n hx hb d_M_inversions_29 rfl (lv_at hl 2 rfl) ?_
              refine rw_iald (v := (nI (P i))) hx hb hK hP 1 rfl (by omega) (by omega) (hfp _ (by omega)) d_M_inversions_30 ?_
              refine rw_cle (tgt := 38) hx hb d_M_inversions_31 (by decide) (by omega) (by omega) (fun c3 => ?_) (fun c3 => ?_)
              · refine lv_iinc (v := (nI (j + 1))) (lv' := [(3, .int (nI (j + 1))), (0, .ref h), (1, .int (nI (pf_io P i + pf_ij P i j))), (2, .int (nI i))]) hx hb d_M_inversions_38 hl (k := 3) rfl (nI_add j 1) (by decide) rfl (fun ls hl => ?_)
                refine lv_goto (tgt := 14) hx hb d_M_inversions_41 (by decide) ?_
                refine ihu (j + 1) ls (by omega) ?_
                rw [show pf_ij P i (j + 1) = pf_ij P i j from if_neg (by omega)]
                exact (lv_sub hl [1, 2, 3, 0] rfl)
              · refine lv_iload_n hx hb d_M_inversions_34 rfl (lv_at hl 1 rfl) ?_
                refine lv_iconst (v := (nI 1)) hx hb d_M_inversions_35 (by decide) ?_
                refine rw_iadd (r := (pf_io P i + pf_ij P i j) + 1) hx hb d_M_inversions_36 rfl ?_
                refine lv_istore_n (lv' := [(1, .int (nI ((pf_io P i + pf_ij P i j) + 1))), (0, .ref h), (2, .int (nI i)), (3, .int (nI j))]) hx hb d_M_inversions_37 rfl hl (by decide) rfl (fun ls hl => ?_)
                refine lv_iinc (v := (nI (j + 1))) (lv' := [(3, .int (nI (j + 1))), (1, .int (nI ((pf_io P i + pf_ij P i j) + 1))), (0, .ref h), (2, .int (nI i))]) hx hb d_M_inversions_38 hl (k := 3) rfl (nI_add j 1) (by decide) rfl (fun ls hl => ?_)
                refine lv_goto (tgt := 14) hx hb d_M_inversions_41 (by decide) ?_
                refine ihu (j + 1) ls (by omega) ?_
                rw [show pf_ij P i (j + 1) = pf_ij P i j + 1 from if_pos c3]
                exact (lv_sub hl [2, 1, 3, 0] rfl)
        exact lq i 0 ls (by omega) (lv_sub hl [1, 2, 3, 0] rfl)
  refine lv_iconst (v := (nI 0)) hx hb d_M_inversions_0 (by decide) ?_
  refine lv_istore_n (lv' := [(1, .int (nI 0)), (0, .ref h)]) hx hb d_M_inversions_1 rfl hl (by decide) rfl (fun ls hl => ?_)
  refine lv_iconst (v := (nI 0)) hx hb d_M_inversions_2 (by decide) ?_
  refine lv_istore_n (lv' := [(2, .int (nI 0)), (1, .int (nI 0)), (0, .ref h)]) hx hb d_M_inversions_3 rfl hl (by decide) rfl (fun ls hl => ?_)
  exact lp n 0 ls (by omega) (lv_sub hl [2, 1, 0] rfl)
set_option maxHeartbeats 4000000 in
set_option maxRecDepth 100000 in
/-- RankDeskModel.exchanges -/
theorem c_M_exchanges (l : Launch) (D : va_G) (cA : ClassId) (h pa : Nat) (v2 v3 : Value) (fp : Nat → Int32) (P : Nat → Nat) (n : Nat) (hn0 : 1 ≤ n) (hn : n ≤ 7) (hP8 : ∀ k, P k < 8) (hfp : ∀ k, k < n → fp k = nI (P k)) (hPn : ∀ k, k < n → P k < n) (hok : ∀ i, i < n → (pf_ew P i 8 (P i) true).2 = true) : Met l y_M_exchanges wz_M_exchanges { frames := 0, cells := 0, slots := 0, locals := 0 } (va_Pc [.ref h] (wd_R D cA [(h, .inr (2, [.int (nI n), .ref pa, v2, v3])), (pa, .inl (cA, 8, .inl fp))])) (QcRead (nI (pf_eo P n))) 0 0 (fun _ => False) := by
  refine Met.ofW (cc := b_M_exchanges) (maxL := 5) (ret := (some .int)) (by decide) rfl ?_
  intro p e s m args below meth c s₁ B hml hv
  obtain ⟨rfl, hP, hK⟩ := hv
  have hx := B.exec
  have hb := B.bytes
  have hr := B.returns
  have hlocks := B.notSynchronized
  have hown : s.vm.findClass "RankDeskModel" = some m.cls := findClass_of_methodNamed B.named
  have ht : ∀ w ∈ lw_g, w.before ([.ref h] : List Value).toArray s = true := fun w hw => atoms_spec (ws := wz_M_exchanges) B.pre w (List.mem_cons_of_mem _ hw)
  obtain ⟨Q, hQ⟩ : ∃ Q, Q = MQ below (QcRead (nI (pf_eo P n))) ([.ref h] : List Value).toArray s 0 0 (fun _ => False) := ⟨_, rfl⟩
  rw [← hQ]
  have hl := lv_entry ([.ref h]) (n := 5) (Nat.le_of_ble_eq_true rfl)
  rw [lg_entry_eq]
  generalize (lg_sl ([.ref h]) ++ List.replicate (5 - (lg_sl ([.ref h])).length) Slot.unset).toArray = ls at hl ⊢
  have hl : lv_has ls 5 [(0, .ref h)] := hl
  show W p l e { frames := 0, cells := 0, slots := 0, locals := 0 } s m ([.ref h] : List Value).toArray below meth c s.heap [] 0 0 Q (F0 m 0 ls [])
  have lp : ∀ (t i : Nat) (ls : Array Slot), i + t = n → lv_has ls 5 [(0, .ref h), (1, .int (nI (pf_eo P i))), (2, .int (nI i))] → W p l e { frames := 0, cells := 0, slots := 0, locals := 0 } s m ([.ref h] : List Value).toArray below meth c s.heap [] 0 0 Q (F0 m 4 ls []) := by
    intro t
    induction t with
    | zero =>
      intro i ls hi hl
      refine lv_iload_n hx hb d_M_exchanges_4 rfl (lv_at hl 2 rfl) ?_
      refine lv_aload_n hx hb d_M_exchanges_5 rfl (lv_at hl 0 rfl) ?_
      refine gf_M_2 hx hb ht hown hK hP 0 rfl d_M_exchanges_6 ?_
      refine rw_cge (tgt := 70) hx hb d_M_exchanges_9 (by decide) (by omega) (by omega) (fun c1 => ?_) (fun c1 => ?_)
      · refine lv_iload_n hx hb d_M_exchanges_70 rfl (lv_at hl 1 rfl) ?_
        refine rw_top (y := (nI (pf_eo P n))) (by rw [show i = n by omega]) ?_
        rw [hQ]
        exact W.iret (v := (nI (pf_eo P n))) hx hb hr (fun t ht _ => ⟨rfl, ht⟩) (fun q h => by cases h) d_M_exchanges_71
      · exact absurd c1 (by omega)
    | succ t ih =>
      intro i ls hi hl
      have hpi := hPn i (by omega)
      have hoki := hok i (by omega)
      refine lv_iload_n hx hb d_M_exchanges_4 rfl (lv_at hl 2 rfl) ?_
      refine lv_aload_n hx hb d_M_exchanges_5 rfl (lv_at hl 0 rfl) ?_
      refine gf_M_2 hx hb ht hown hK hP 0 rfl d_M_exchanges_6 ?_
      refine rw_cge (tgt := 70) hx hb d_M_exchanges_9 (by decide) (by omega) (by omega) (fun c1 => ?_) (fun c1 => ?_)
      · exact absurd c1 (by omega)
      · refine lv_iconst (v := (nI 1)) hx hb d_M_exchanges_12 (by decide) ?_
        refine lv_istore_n (lv' := [(3, .int (nI 1)), (0, .ref h), (1, .int (nI (pf_eo P i))), (2, .int (nI i))]) hx hb d_M_exchanges_13 rfl hl (by decide) rfl (fun ls hl => ?_)
        refine lv_aload_n hx hb d_M_exchanges_14 rfl (lv_at hl 1 rfl) ?_
        refine gf_M_8 hx hb ht hown hK hP 0 rfl d_M_exchanges_15 ?_
        refine lv_iload_n hx hb d_M_exchanges_18 rfl (lv_at hl 3 rfl) ?_
        refine rw_iald (v := (nI (P i))) hx hb hK hP 1 rfl (by omega) (by omega) (hfp _ (by omega)) d_M_exchanges_19 ?_
        refine lv_istore (lv' := [(4, .int (nI (P i))), (3, .int (nI 1)), (0, .ref h), (1, .int (nI (pf_eo P i))), (2, .int (nI i))]) hx hb d_M_exchanges_20 hl (by decide) rfl (fun ls hl => ?_)
        have lq : ∀ (f x : Nat) (b : Bool) (ls : Array Slot), x < n → (pf_ew P i f x b).2 = true → (pf_ew P i f x b).1 = (pf_ew P i 8 (P i) true).1 → lv_has ls 5 [(0, .ref h), (1, .int (nI (pf_eo P i))), (2, .int (nI i)), (3, .int (nI b.toNat)), (4, .int (nI x))] → W p l e { frames := 0, cells := 0, slots := 0, locals := 0 } s m ([.ref h] : List Value).toArray below meth c s.heap [] 0 0 Q (F0 m 22 ls []) := by
          intro f
          induction f with
          | zero =>
            intro x b ls h1 h2
            exact absurd h2 (by simp [pf_ew])
          | succ f ihf =>
            intro x b ls h1 h2 h3 hl
            have hb1 := bt_le b
            refine lv_iload hx hb d_M_exchanges_22 (lv_at hl 4 rfl) ?_
            refine lv_iload_n hx hb d_M_exchanges_24 rfl (lv_at hl 2 rfl) ?_
            refine rw_ceq (tgt := 56) hx hb d_M_exchanges_25 (by decide) (by omega) (by omega) (fun c2 => ?_) (fun c2 => ?_)
            · rw [pf_ew, if_pos c2] at h3
              have h3 : b = (pf_ew P i 8 (P i) true).1 := h3
              refine lv_iload_n hx hb d_M_exchanges_56 rfl (lv_at hl 3 rfl) ?_
              refine rw_zne (tgt := 64) hx hb d_M_exchanges_57 (by decide) (by omega) (fun c3 => ?_) (fun c3 => ?_)
              · refine lv_iinc (v := (nI (i + 1))) (lv' := [(2, .int (nI (i + 1))), (0, .ref h), (1, .int (nI (pf_eo P i))), (3, .int (nI b.toNat)), (4, .int (nI x))]) hx hb d_M_exchanges_64 hl (k := 2) rfl (nI_add i 1) (by decide) rfl (fun ls hl => ?_)
                refine lv_goto (tgt := 4) hx hb d_M_exchanges_67 (by decide) ?_
                refine ih (i + 1) ls (by omega) ?_
                rw [show pf_eo P (i + 1) = pf_eo P i from if_pos (by rw [← h3]; exact bt_t c3)]
                exact (lv_sub hl [1, 2, 0] rfl)
              · refine lv_iload_n hx hb d_M_exchanges_60 rfl (lv_at hl 1 rfl) ?_
                refine lv_iconst (v := (nI 1)) hx hb d_M_exchanges_61 (by decide) ?_
                refine rw_iadd (r := (pf_eo P i) + 1) hx hb d_M_exchanges_62 rfl ?_
                refine lv_istore_n (lv' := [(1, .int (nI ((pf_eo P i) + 1))), (0, .ref h), (2, .int (nI i)), (3, .int (nI b.toNat)), (4, .int (nI x))]) hx hb d_M_exchanges_63 rfl hl (by decide) rfl (fun ls hl => ?_)
                refine lv_iinc (v := (nI (i + 1))) (lv' := [(2, .int (nI (i + 1))), (1, .int (nI ((pf_eo P i) + 1))), (0, .ref h), (3, .int (nI b.toNat)), (4, .int (nI x))]) hx hb d_M_exchanges_64 hl (k := 2) rfl (nI_add i 1) (by decide) rfl (fun ls hl => ?_)
                refine lv_goto (tgt := 4) hx hb d_M_exchanges_67 (by decide) ?_
                refine ih (i + 1) ls (by omega) ?_
                rw [show pf_eo P (i + 1) = pf_eo P i + 1 from if_neg (by rw [← h3, bt_f c3]; decide)]
                exact (lv_sub hl [2, 1, 0] rfl)
            · rw [pf_ew, if_neg c2] at h2 h3
              refine lv_iload_n hx hb d_M_exchanges_28 rfl (lv_at hl 3 rfl) ?_
              refine rw_zeq (tgt := 42) hx hb d_M_exchanges_29 (by decide) (by omega) (fun c3 => ?_) (fun c3 => ?_)
              · refine lv_iconst (v := (nI 0)) hx hb d_M_exchanges_42 (by decide) ?_
                refine lv_istore_n (lv' := [(3, .int (nI 0)), (0, .ref h), (1, .int (nI (pf_eo P i))), (2, .int (nI i)), (4, .int (nI x))]) hx hb d_M_exchanges_43 rfl hl (by decide) rfl (fun ls hl => ?_)
                refine lv_aload_n hx hb d_M_exchanges_44 rfl (lv_at hl 1 rfl) ?_
                refine gf_M_8 hx hb ht hown hK hP 0 rfl d_M_exchanges_45 ?_
                refine lv_iload hx hb d_M_exchanges_48 (lv_at hl 4 rfl) ?_
                refine rw_iald (v := (nI (P x))) hx hb hK hP 1 rfl (by omega) (by omega) (hfp _ (by omega)) d_M_exchanges_50 ?_
                refine lv_istore (lv' := [(4, .int (nI (P x))), (3, .int (nI 0)), (0, .ref h), (1, .int (nI (pf_eo P i))), (2, .int (nI i))]) hx hb d_M_exchanges_51 hl (by decide) rfl (fun ls hl => ?_)
                refine lv_goto (tgt := 22) hx hb d_M_exchanges_53 (by decide) ?_
                have e1 : (b && Nat.blt i x).toNat = 0 := bt_0 c3
                refine ihf (P x) (b && Nat.blt i x) ls (hPn x h1) h2 h3 ?_
                rw [e1]
                exact (lv_sub hl [2, 3, 4, 1, 0] rfl)
              · refine lv_iload hx hb d_M_exchanges_32 (lv_at hl 4 rfl) ?_
                refine lv_iload_n hx hb d_M_exchanges_34 rfl (lv_at hl 2 rfl) ?_
                refine rw_cle (tgt := 42) hx hb d_M_exchanges_35 (by decide) (by omega) (by omega) (fun c4 => ?_) (fun c4 => ?_)
                · refine lv_iconst (v := (nI 0)) hx hb d_M_exchanges_42 (by decide) ?_
                  refine lv_istore_n (lv' := [(3, .int (nI 0)), (0, .ref h), (1, .int (nI (pf_eo P i))), (2, .int (nI i)), (4, .int (nI x))]) hx hb d_M_exchanges_43 rfl hl (by decide) rfl (fun ls hl => ?_)
                  refine lv_aload_n hx hb d_M_exchanges_44 rfl (lv_at hl 1 rfl) ?_
                  refine gf_M_8 hx hb ht hown hK hP 0 rfl d_M_exchanges_45 ?_
                  refine lv_iload hx hb d_M_exchanges_48 (lv_at hl 4 rfl) ?_
                  refine rw_iald (v := (nI (P x))) hx hb hK hP 1 rfl (by omega) (by omega) (hfp _ (by omega)) d_M_exchanges_50 ?_
                  refine lv_istore (lv' := [(4, .int (nI (P x))), (3, .int (nI 0)), (0, .ref h), (1, .int (nI (pf_eo P i))), (2, .int (nI i))]) hx hb d_M_exchanges_51 hl (by decide) rfl (fun ls hl => ?_)
                  refine lv_goto (tgt := 22) hx hb d_M_exchanges_53 (by decide) ?_
                  have e1 : (b && Nat.blt i x).toNat = 0 := bt_n (nl_ge c4)
                  refine ihf (P x) (b && Nat.blt i x) ls (hPn x h1) h2 h3 ?_
                  rw [e1]
                  exact (lv_sub hl [2, 3, 4, 1, 0] rfl)
                · refine lv_iconst (v := (nI 1)) hx hb d_M_exchanges_38 (by decide) ?_
                  refine lv_goto (tgt := 43) hx hb d_M_exchanges_39 (by decide) ?_
                  refine lv_istore_n (lv' := [(3, .int (nI 1)), (0, .ref h), (1, .int (nI (pf_eo P i))), (2, .int (nI i)), (4, .int (nI x))]) hx hb d_M_exchanges_43 rfl hl (by decide) rfl (fun ls hl => ?_)
                  refine lv_aload_n hx hb d_M_exchanges_44 rfl (lv_at hl 1 rfl) ?_
                  refine gf_M_8 hx hb ht hown hK hP 0 rfl d_M_exchanges_45 ?_
                  refine lv_iload hx hb d_M_exchanges_48 (lv_at hl 4 rfl) ?_
                  refine rw_iald (v := (nI (P x))) hx hb hK hP 1 rfl (by omega) (by omega) (hfp _ (by omega)) d_M_exchanges_50 ?_
                  refine lv_istore (lv' := [(4, .int (nI (P x))), (3, .int (nI 1)), (0, .ref h), (1, .int (nI (pf_eo P i))), (2, .int (nI i))]) hx hb d_M_exchanges_51 hl (by decide) rfl (fun ls hl => ?_)
                  refine lv_goto (tgt := 22) hx hb d_M_exchanges_53 (by decide) ?_
                  have e1 : (b && Nat.blt i x).toNat = 1 := bt_1 c3 (nl_lt c4)
                  refine ihf (P x) (b && Nat.blt i x) ls (hPn x h1) h2 h3 ?_
                  rw [e1]
                  exact (lv_sub hl [2, 3, 4, 1, 0] rfl)
        exact lq 8 (P i) true ls hpi hoki rfl (lv_sub hl [2, 3, 4, 1, 0] rfl)
  refine lv_iconst (v := (nI 0)) hx hb d_M_exchanges_0 (by decide) ?_
  refine lv_istore_n (lv' := [(1, .int (nI 0)), (0, .ref h)]) hx hb d_M_exchanges_1 rfl hl (by decide) rfl (fun ls hl => ?_)
  refine lv_iconst (v := (nI 0)) hx hb d_M_exchanges_2 (by decide) ?_
  refine lv_istore_n (lv' := [(2, .int (nI 0)), (1, .int (nI 0)), (0, .ref h)]) hx hb d_M_exchanges_3 rfl hl (by decide) rfl (fun ls hl => ?_)
  exact lp n 0 ls (by omega) (lv_sub hl [2, 1, 0] rfl)
end
section
/-! numbers for the third part of RankDeskModel -/
theorem dI_le {a l : Nat} (ha : a < 2 ^ 30) (hl : l < 2 ^ 30) : nI a ≤ dI l ↔ a < l := by
  rcases l with _ | l
  · constructor
    · intro h
      have h2 : (0 : Int32) ≤ nI a := nI_pos' (by omega)
      exact absurd (Int32.le_trans h2 h) (by decide)
    · intro h; omega
  · rw [dI_succ, nI_leI (by omega) (by omega)]; omega
theorem pf_mi_b {P : Nat → Nat} {s : Nat} (h : ∀ k, P k < 8) : ∀ i, (pf_mi P s i).1 ≤ 8 ∧ (pf_mi P s i).2.1 ≤ i
  | 0 => ⟨by show 0 ≤ 8; omega, Nat.le_refl _⟩
  | i + 1 => by
    obtain ⟨h1, h2⟩ := pf_mi_b (s := s) h i
    have h3 := h i
    rw [pf_mi]
    split
    · exact ⟨h1, by omega⟩
    · exact ⟨by show P i + 1 ≤ 8; omega, by show _ + 1 ≤ _; omega⟩
theorem pf_mo_b {n : Nat} {P : Nat → Nat} (h : ∀ k, P k < 8) : ∀ s, pf_mo n P s ≤ n
  | 0 => Nat.zero_le _
  | s + 1 => by
    rw [pf_mo]
    split
    · exact (pf_mi_b h n).2
    · exact pf_mo_b h s
/-- going on with P, as many times -/
def pf_it (P : Nat → Nat) : Nat → Nat → Nat
  | 0, i => i
  | t + 1, i => P (pf_it P t i)
theorem pf_it_lt {P : Nat → Nat} {n : Nat} (h : ∀ k, k < n → P k < n) : ∀ t i, i < n → pf_it P t i < n
  | 0, _, hi => hi
  | t + 1, i, hi => h _ (pf_it_lt h t i hi)
end
section
/-! RankDeskModel: the third part -/
set_option maxHeartbeats 4000000 in
set_option maxRecDepth 100000 in
/-- RankDeskModel.turns -/
theorem c_M_turns (l : Launch) (D : va_G) (cA : ClassId) (sz h pa qa la : Nat) (fp fq fl : Nat → Int32) (P : Nat → Nat) (n : Nat) (hn0 : 1 ≤ n) (hn : n ≤ 7) (hP8 : ∀ k, P k < 8) (hPn : ∀ k, k < n → P k < n) (hfp : ∀ k, k < n → fp k = nI (P k)) (hok : (pf_tw n P 13 P 1).2 = true) : Met l y_M_turns wz_M_turns { frames := 0, cells := 0, slots := 0, locals := 0 } (va_Pc [.ref h] (wd_Z D cA sz [(h, .inr (2, [.int (nI n), .ref pa, .ref qa, .ref la])), (pa, .inl (cA, 8, .inl fp)), (qa, .inl (cA, 8, .inl fq)), (la, .inl (cA, 8, .inl fl))])) (va_Qi (fun (r_ : Int32) (u : (Nat → Int32) × (Nat → Int32)) => r_ = nI (pf_tw n P 13 P 1).1) (fun u t => wd_T D cA (va_A [(h, .inr (2, [.int (nI n), .ref pa, .ref qa, .ref la])), (pa, .inl (cA, 8, .inl fp)), (qa, .inl (cA, 8, .inl fq)), (la, .inl (cA, 8, .inl fl))] sz) [(h, .inr (2, [.int (nI n), .ref pa, .ref qa, .ref la])), (pa, .inl (cA, 8, .inl fp)), (qa, .inl (cA, 8, .inl u.1)), (la, .inl (cA, 8, .inl u.2))] t) (va_A [(h, .inr (2, [.int (nI n), .ref pa, .ref qa, .ref la])), (pa, .inl (cA, 8, .inl fp)), (qa, .inl (cA, 8, .inl fq)), (la, .inl (cA, 8, .inl fl))] sz)) 0 0 (va_A [(h, .inr (2, [.int (nI n), .ref pa, .ref qa, .ref la])), (pa, .inl (cA, 8, .inl fp)), (qa, .inl (cA, 8, .inl fq)), (la, .inl (cA, 8, .inl fl))] sz) := by
  refine Met.ofW (cc := b_M_turns) (maxL := 4) (ret := (some .int)) (by decide) rfl ?_
  intro p e s m args below meth c s₁ B hml hv
  obtain ⟨rfl, hsz, hP, hK, hD0⟩ := hv
  have hx := B.exec
  have hb := B.bytes
  have hr := B.returns
  have hlocks := B.notSynchronized
  have hown : s.vm.findClass "RankDeskModel" = some m.cls := findClass_of_methodNamed B.named
  have ht : ∀ w ∈ lw_g, w.before ([.ref h] : List Value).toArray s = true := fun w hw => atoms_spec (ws := wz_M_turns) B.pre w (List.mem_cons_of_mem _ hw)
  subst hsz
  have hD := hD0.self (sz := s.heap.size)
  obtain ⟨A, hAe⟩ : ∃ A, A = va_A [(h, .inr (2, [.int (nI n), .ref pa, .ref qa, .ref la])), (pa, .inl (cA, 8, .inl fp)), (qa, .inl (cA, 8, .inl fq)), (la, .inl (cA, 8, .inl fl))] s.heap.size := ⟨_, rfl⟩
  rw [← hAe] at hD ⊢
  have hA : ∀ q : Nat, s.heap.size ≤ q → A q := fun q h => by rw [hAe]; exact Or.inr h
  have hS : va_S A s.heap s.heap [] := va_S.rf
  have hP : va_P D classes [(h, .inr (2, [.int (nI n), .ref pa, .ref qa, .ref la])), (pa, .inl (cA, 8, .inl fp)), (qa, .inl (cA, 8, .inl fq)), (la, .inl (cA, 8, .inl fl))] s.heap := hP
  obtain ⟨Q, hQ⟩ : ∃ Q, Q = MQ below (va_Qi (fun (r_ : Int32) (u : (Nat → Int32) × (Nat → Int32)) => r_ = nI (pf_tw n P 13 P 1).1) (fun u t => wd_T D cA A [(h, .inr (2, [.int (nI n), .ref pa, .ref qa, .ref la])), (pa, .inl (cA, 8, .inl fp)), (qa, .inl (cA, 8, .inl u.1)), (la, .inl (cA, 8, .inl u.2))] t) A) ([.ref h] : List Value).toArray s 0 0 A := ⟨_, rfl⟩
  rw [← hQ]
  have hl := lv_entry ([.ref h]) (n := 4) (Nat.le_of_ble_eq_true rfl)
  rw [lg_entry_eq]
  generalize (lg_sl ([.ref h]) ++ List.replicate (4 - (lg_sl ([.ref h])).length) Slot.unset).toArray = ls at hl ⊢
  have hl : lv_has ls 4 [(0, .ref h)] := hl
  show W p l e { frames := 0, cells := 0, slots := 0, locals := 0 } s m ([.ref h] : List Value).toArray below meth c s.heap [] 0 0 Q (F0 m 0 ls [])
  have lb : ∀ (f c0 : Nat) (S : Nat → Nat) (g gl : Nat → Int32) (H : Heap) (locs : List Loc) (ls : Array Slot), c0 + f ≤ 20 → (∀ k, k < n → S k < n) → (∀ k, k < n → g k = nI (S k)) → (pf_tw n P f S c0).2 = true → (pf_tw n P f S c0).1 = (pf_tw n P 13 P 1).1 → va_P D classes [(h, .inr (2, [.int (nI n), .ref pa, .ref qa, .ref la])), (pa, .inl (cA, 8, .inl fp)), (qa, .inl (cA, 8, .inl g)), (la, .inl (cA, 8, .inl gl))] H → va_D A [(h, .inr (2, [.int (nI n), .ref pa, .ref qa, .ref la])), (pa, .inl (cA, 8, .inl fp)), (qa, .inl (cA, 8, .inl g)), (la, .inl (cA, 8, .inl gl))] → va_S A s.heap H locs → lv_has ls 4 [(0, .ref h), (1, .int (nI c0)), (2, .int (nI 0))] → W p l e { frames := 0, cells := 0, slots := 0, locals := 0 } s m ([.ref h] : List Value).toArray below meth c H locs 0 0 Q (F0 m 32 ls []) := by
    intro f
    induction f with
    | zero =>
      intro c0 S g gl H locs ls h1 h2 h3 h4 h5 hP hD hS hl
      exact absurd h4 (by simp [pf_tw])
    | succ f ih =>
      intro c0 S g gl H locs ls h1 h2 h3 h4 h5 hP hD hS hl
      have lq : ∀ (t i : Nat) (g2 gl2 : Nat → Int32) (H : Heap) (locs : List Loc) (ls : Array Slot), i + t = n → (pf_tw n P f (fun i => P (S i)) (c0 + 1)).2 = true → (pf_tw n P f (fun i => P (S i)) (c0 + 1)).1 = (pf_tw n P 13 P 1).1 → (∀ j, j < n → gl2 j = nI (P (S j))) → (∀ j, j < i → g2 j = nI (P (S j))) → va_P D classes [(h, .inr (2, [.int (nI n), .ref pa, .ref qa, .ref la])), (pa, .inl (cA, 8, .inl fp)), (qa, .inl (cA, 8, .inl g2)), (la, .inl (cA, 8, .inl gl2))] H → va_D A [(h, .inr (2, [.int (nI n), .ref pa, .ref qa, .ref la])), (pa, .inl (cA, 8, .inl fp)), (qa, .inl (cA, 8, .inl g2)), (la, .inl (cA, 8, .inl gl2))] → va_S A s.heap H locs → lv_has ls 4 [(0, .ref h), (1, .int (nI c0)), (2, .int (nI 0)), (3, .int (nI i))] → W p l e { frames := 0, cells := 0, slots := 0, locals := 0 } s m ([.ref h] : List Value).toArray below meth c H locs 0 0 Q (F0 m 113 ls []) := by
        intro t
        induction t with
        | zero =>
          intro i g2 gl2 H locs ls hi n1 n2 k1 k2 hP hD hS hl
          refine lv_iload_n hx hb d_M_turns_113 rfl (lv_at hl 3 rfl) ?_
          refine lv_aload_n hx hb d_M_turns_114 rfl (lv_at hl 0 rfl) ?_
          refine gf_M_2 hx hb ht hown hK hP 0 rfl d_M_turns_115 ?_
          refine rw_cge (tgt := 139) hx hb d_M_turns_118 (by decide) (by omega) (by omega) (fun c1 => ?_) (fun c1 => ?_)
          · refine lv_iload_n hx hb d_M_turns_139 rfl (lv_at hl 1 rfl) ?_
            refine lv_iconst (v := (nI 1)) hx hb d_M_turns_140 (by decide) ?_
            refine rw_iadd (r := c0 + 1) hx hb d_M_turns_141 rfl ?_
            refine lv_istore_n (lv' := [(1, .int (nI (c0 + 1))), (0, .ref h), (2, .int (nI 0)), (3, .int (nI i))]) hx hb d_M_turns_142 rfl hl (by decide) rfl (fun ls hl => ?_)
            refine lv_goto (tgt := 32) hx hb d_M_turns_143 (by decide) ?_
            exact ih (c0 + 1) (fun i => P (S i)) g2 gl2 H locs ls (by omega) (fun k hk => hPn _ (h2 k hk)) (fun k hk => k2 k (by omega)) n1 n2 hP hD hS (lv_sub hl [1, 0, 2] rfl)
          · exact absurd c1 (by omega)
        | succ t ihq =>
          intro i g2 gl2 H locs ls hi n1 n2 k1 k2 hP hD hS hl
          refine lv_iload_n hx hb d_M_turns_113 rfl (lv_at hl 3 rfl) ?_
          refine lv_aload_n hx hb d_M_turns_114 rfl (lv_at hl 0 rfl) ?_
          refine gf_M_2 hx hb ht hown hK hP 0 rfl d_M_turns_115 ?_
          refine rw_cge (tgt := 139) hx hb d_M_turns_118 (by decide) (by omega) (by omega) (fun c1 => ?_) (fun c1 => ?_)
          · exact absurd c1 (by omega)
          · refine lv_aload_n hx hb d_M_turns_121 rfl (lv_at hl 0 rfl) ?_
            refine gf_M_18 hx hb ht hown hK hP 0 rfl d_M_turns_122 ?_
            refine lv_iload_n hx hb d_M_turns_125 rfl (lv_at hl 3 rfl) ?_
            refine lv_aload_n hx hb d_M_turns_126 rfl (lv_at hl 0 rfl) ?_
            refine gf_M_21 hx hb ht hown hK hP 0 rfl d_M_turns_127 ?_
            refine lv_iload_n hx hb d_M_turns_130 rfl (lv_at hl 3 rfl) ?_
            refine rw_iald (v := (nI (P (S i)))) hx hb hK hP 3 rfl (by omega) (by omega) (k1 _ (by omega)) d_M_turns_131 ?_
            refine rw_iast (k := i) hx hb hK hP hD hS 2 rfl (by omega) (by omega) d_M_turns_132 (fun H locs hP hD hS => ?_)
            have hP : va_P D classes [(h, .inr (2, [.int (nI n), .ref pa, .ref qa, .ref la])), (pa, .inl (cA, 8, .inl fp)), (qa, .inl (cA, 8, .inl (upd g2 i ((nI (P (S i))))))), (la, .inl (cA, 8, .inl gl2))] H := hP
            have hD : va_D A [(h, .inr (2, [.int (nI n), .ref pa, .ref qa, .ref la])), (pa, .inl (cA, 8, .inl fp)), (qa, .inl (cA, 8, .inl (upd g2 i ((nI (P (S i))))))), (la, .inl (cA, 8, .inl gl2))] := hD
            refine lv_iinc (v := (nI (i + 1))) (lv' := [(3, .int (nI (i + 1))), (0, .ref h), (1, .int (nI c0)), (2, .int (nI 0))]) hx hb d_M_turns_133 hl (k := 3) rfl (nI_add i 1) (by decide) rfl (fun ls hl => ?_)
            refine lv_goto (tgt := 113) hx hb d_M_turns_136 (by decide) ?_
            exact ihq (i + 1) (upd g2 i (nI (P (S i)))) gl2 H locs ls (by omega) n1 n2 k1 (up_st (E := fun j => P (S j)) k2) hP hD hS (lv_sub hl [1, 2, 3, 0] rfl)
      have ll : ∀ (t i : Nat) (gl2 : Nat → Int32) (H : Heap) (locs : List Loc) (ls : Array Slot), i + t = n → (pf_tw n P f (fun i => P (S i)) (c0 + 1)).2 = true → (pf_tw n P f (fun i => P (S i)) (c0 + 1)).1 = (pf_tw n P 13 P 1).1 → (∀ j, j < i → gl2 j = nI (P (S j))) → va_P D classes [(h, .inr (2, [.int (nI n), .ref pa, .ref qa, .ref la])), (pa, .inl (cA, 8, .inl fp)), (qa, .inl (cA, 8, .inl g)), (la, .inl (cA, 8, .inl gl2))] H → va_D A [(h, .inr (2, [.int (nI n), .ref pa, .ref qa, .ref la])), (pa, .inl (cA, 8, .inl fp)), (qa, .inl (cA, 8, .inl g)), (la, .inl (cA, 8, .inl gl2))] → va_S A s.heap H locs → lv_has ls 4 [(0, .ref h), (1, .int (nI c0)), (2, .int (nI 0)), (3, .int (nI i))] → W p l e { frames := 0, cells := 0, slots := 0, locals := 0 } s m ([.ref h] : List Value).toArray below meth c H locs 0 0 Q (F0 m 80 ls []) := by
        intro t
        induction t with
        | zero =>
          intro i gl2 H locs ls hi n1 n2 k1 hP hD hS hl
          refine lv_iload_n hx hb d_M_turns_80 rfl (lv_at hl 3 rfl) ?_
          refine lv_aload_n hx hb d_M_turns_81 rfl (lv_at hl 0 rfl) ?_
          refine gf_M_2 hx hb ht hown hK hP 0 rfl d_M_turns_82 ?_
          refine rw_cge (tgt := 111) hx hb d_M_turns_85 (by decide) (by omega) (by omega) (fun c1 => ?_) (fun c1 => ?_)
          · refine lv_iconst (v := (nI 0)) hx hb d_M_turns_111 (by decide) ?_
            refine lv_istore_n (lv' := [(3, .int (nI 0)), (0, .ref h), (1, .int (nI c0)), (2, .int (nI 0))]) hx hb d_M_turns_112 rfl hl (by decide) rfl (fun ls hl => ?_)
            exact lq n 0 g gl2 H locs ls (by omega) n1 n2 (fun j hj => k1 j (by omega)) (fun j hj => absurd hj (Nat.not_lt_zero j)) hP hD hS (lv_sub hl [1, 2, 3, 0] rfl)
          · exact absurd c1 (by omega)
        | succ t ihq =>
          intro i gl2 H locs ls hi n1 n2 k1 hP hD hS hl
          have hsi := h2 i (by omega)
          refine lv_iload_n hx hb d_M_turns_80 rfl (lv_at hl 3 rfl) ?_
          refine lv_aload_n hx hb d_M_turns_81 rfl (lv_at hl 0 rfl) ?_
          refine gf_M_2 hx hb ht hown hK hP 0 rfl d_M_turns_82 ?_
          refine rw_cge (tgt := 111) hx hb d_M_turns_85 (by decide) (by omega) (by omega) (fun c1 => ?_) (fun c1 => ?_)
          · exact absurd c1 (by omega)
          · refine lv_aload_n hx hb d_M_turns_88 rfl (lv_at hl 0 rfl) ?_
            refine gf_M_21 hx hb ht hown hK hP 0 rfl d_M_turns_89 ?_
            refine lv_iload_n hx hb d_M_turns_92 rfl (lv_at hl 3 rfl) ?_
            refine lv_aload_n hx hb d_M_turns_93 rfl (lv_at hl 0 rfl) ?_
            refine gf_M_8 hx hb ht hown hK hP 0 rfl d_M_turns_94 ?_
            refine lv_aload_n hx hb d_M_turns_97 rfl (lv_at hl 0 rfl) ?_
            refine gf_M_18 hx hb ht hown hK hP 0 rfl d_M_turns_98 ?_
            refine lv_iload_n hx hb d_M_turns_101 rfl (lv_at hl 3 rfl) ?_
            refine rw_iald (v := (nI (S i))) hx hb hK hP 2 rfl (by omega) (by omega) (h3 _ (by omega)) d_M_turns_102 ?_
            refine rw_iald (v := (nI (P (S i)))) hx hb hK hP 1 rfl (by omega) (by omega) (hfp _ (by omega)) d_M_turns_103 ?_
            refine rw_iast (k := i) hx hb hK hP hD hS 3 rfl (by omega) (by omega) d_M_turns_104 (fun H locs hP hD hS => ?_)
            have hP : va_P D classes [(h, .inr (2, [.int (nI n), .ref pa, .ref qa, .ref la])), (pa, .inl (cA, 8, .inl fp)), (qa, .inl (cA, 8, .inl g)), (la, .inl (cA, 8, .inl (upd gl2 i ((nI (P (S i)))))))] H := hP
            have hD : va_D A [(h, .inr (2, [.int (nI n), .ref pa, .ref qa, .ref la])), (pa, .inl (cA, 8, .inl fp)), (qa, .inl (cA, 8, .inl g)), (la, .inl (cA, 8, .inl (upd gl2 i ((nI (P (S i)))))))] := hD
            refine lv_iinc (v := (nI (i + 1))) (lv' := [(3, .int (nI (i + 1))), (0, .ref h), (1, .int (nI c0)), (2, .int (nI 0))]) hx hb d_M_turns_105 hl (k := 3) rfl (nI_add i 1) (by decide) rfl (fun ls hl => ?_)
            refine lv_goto (tgt := 80) hx hb d_M_turns_108 (by decide) ?_
            exact ihq (i + 1) (upd gl2 i (nI (P (S i)))) H locs ls (by omega) n1 n2 (up_st (E := fun j => P (S j)) k1) hP hD hS (lv_sub hl [1, 2, 3, 0] rfl)
      have e4 : ∀ (_ : Unit) (ls : Array Slot), lv_has ls 4 [(0, .ref h), (1, .int (nI c0)), (2, .int (nI ((pf_upto (fun i => Nat.beq (S i) i) n).toNat)))] → W p l e { frames := 0, cells := 0, slots := 0, locals := 0 } s m ([.ref h] : List Value).toArray below meth c H locs 0 0 Q (F0 m 74 ls []) := by
        intro _ ls hl
        by_cases hh : pf_upto (fun i => Nat.beq (S i) i) n = true
        · rw [pf_tw, if_pos hh] at h5
          have h5 : c0 = (pf_tw n P 13 P 1).1 := h5
          rw [hh] at hl
          have hl : lv_has ls 4 [(0, .ref h), (1, .int (nI c0)), (2, .int (nI 1))] := hl
          refine lv_iload_n hx hb d_M_turns_74 rfl (lv_at hl 2 rfl) ?_
          refine rw_zne (tgt := 32) hx hb d_M_turns_75 (by decide) (by omega) (fun c2 => ?_) (fun c2 => ?_)
          · refine lv_iload_n hx hb d_M_turns_32 rfl (lv_at hl 2 rfl) ?_
            refine rw_zne (tgt := 146) hx hb d_M_turns_33 (by decide) (by omega) (fun c3 => ?_) (fun c3 => ?_)
            · refine lv_iload_n hx hb d_M_turns_146 rfl (lv_at hl 1 rfl) ?_
              refine rw_top (y := (nI ((pf_tw n P 13 P 1).1))) (by rw [h5]) ?_
              have hP9 := hP.sub (ws' := [(h, .inr (2, [.int (nI n), .ref pa, .ref qa, .ref la])), (pa, .inl (cA, 8, .inl fp)), (qa, .inl (cA, 8, .inl g)), (la, .inl (cA, 8, .inl gl))]) [0, 1, 2, 3] rfl
              have hD9 := hD.sub (ws' := [(h, .inr (2, [.int (nI n), .ref pa, .ref qa, .ref la])), (pa, .inl (cA, 8, .inl fp)), (qa, .inl (cA, 8, .inl g)), (la, .inl (cA, 8, .inl gl))]) [0, 1, 2, 3] (by decide) rfl
              rw [hQ]
              exact W.iret (v := (nI ((pf_tw n P 13 P 1).1))) hx hb hr (fun t ht hW => ⟨⟨(nI ((pf_tw n P 13 P 1).1)), (g, gl), rfl, rfl, by rw [ht]; exact hP9, va_K.moved hW.alike hK, hD9⟩, hS.F ht⟩) hS.2.2 d_M_turns_147
            · exact absurd c3 (by decide)
          · exact absurd c2 (by decide)
        · rw [pf_tw, if_neg hh] at h4 h5
          rw [Bool.not_eq_true] at hh
          rw [hh] at hl
          have hl : lv_has ls 4 [(0, .ref h), (1, .int (nI c0)), (2, .int (nI 0))] := hl
          refine lv_iload_n hx hb d_M_turns_74 rfl (lv_at hl 2 rfl) ?_
          refine rw_zne (tgt := 32) hx hb d_M_turns_75 (by decide) (by omega) (fun c2 => ?_) (fun c2 => ?_)
          · exact absurd rfl c2
          · refine lv_iconst (v := (nI 0)) hx hb d_M_turns_78 (by decide) ?_
            refine lv_istore_n (lv' := [(3, .int (nI 0)), (0, .ref h), (1, .int (nI c0)), (2, .int (nI 0))]) hx hb d_M_turns_79 rfl hl (by decide) rfl (fun ls hl => ?_)
            exact ll n 0 gl H locs ls (by omega) h4 h5 (fun j hj => absurd hj (Nat.not_lt_zero j)) hP hD hS (lv_sub hl [1, 2, 3, 0] rfl)
      have li : ∀ (t k : Nat) (ls : Array Slot), k + t = n → lv_has ls 4 [(0, .ref h), (1, .int (nI c0)), (2, .int (nI ((pf_upto (fun i => Nat.beq (S i) i) k).toNat))), (3, .int (nI k))] → W p l e { frames := 0, cells := 0, slots := 0, locals := 0 } s m ([.ref h] : List Value).toArray below meth c H locs 0 0 Q (F0 m 40 ls []) := by
        intro t
        induction t with
        | zero =>
          intro k ls hk hl
          refine lv_iload_n hx hb d_M_turns_40 rfl (lv_at hl 3 rfl) ?_
          refine lv_aload_n hx hb d_M_turns_41 rfl (lv_at hl 0 rfl) ?_
          refine gf_M_2 hx hb ht hown hK hP 0 rfl d_M_turns_42 ?_
          refine rw_cge (tgt := 74) hx hb d_M_turns_45 (by decide) (by omega) (by omega) (fun c1 => ?_) (fun c1 => ?_)
          · rw [show k = n by omega] at hl
            exact e4 () ls (lv_sub hl [0, 1, 2] rfl)
          · exact absurd c1 (by omega)
        | succ t ihq =>
          intro k ls hk hl
          have hb1 := bt_le (pf_upto (fun i => Nat.beq (S i) i) k)
          have hsk := h2 k (by omega)
          refine lv_iload_n hx hb d_M_turns_40 rfl (lv_at hl 3 rfl) ?_
          refine lv_aload_n hx hb d_M_turns_41 rfl (lv_at hl 0 rfl) ?_
          refine gf_M_2 hx hb ht hown hK hP 0 rfl d_M_turns_42 ?_
          refine rw_cge (tgt := 74) hx hb d_M_turns_45 (by decide) (by omega) (by omega) (fun c1 => ?_) (fun c1 => ?_)
          · exact absurd c1 (by omega)
          · refine lv_iload_n hx hb d_M_turns_48 rfl (lv_at hl 2 rfl) ?_
            refine rw_zeq (tgt := 66) hx hb d_M_turns_49 (by decide) (by omega) (fun c2 => ?_) (fun c2 => ?_)
            · refine lv_iconst (v := (nI 0)) hx hb d_M_turns_66 (by decide) ?_
              refine lv_istore_n (lv' := [(2, .int (nI 0)), (0, .ref h), (1, .int (nI c0)), (3, .int (nI k))]) hx hb d_M_turns_67 rfl hl (by decide) rfl (fun ls hl => ?_)
              refine lv_iinc (v := (nI (k + 1))) (lv' := [(3, .int (nI (k + 1))), (2, .int (nI 0)), (0, .ref h), (1, .int (nI c0))]) hx hb d_M_turns_68 hl (k := 3) rfl (nI_add k 1) (by decide) rfl (fun ls hl => ?_)
              refine lv_goto (tgt := 40) hx hb d_M_turns_71 (by decide) ?_
              have e1 : (pf_upto (fun i => Nat.beq (S i) i) (k + 1)).toNat = 0 := bt_0 c2
              refine ihq (k + 1) ls (by omega) ?_
              rw [e1]
              exact (lv_sub hl [2, 3, 1, 0] rfl)
            · refine lv_aload_n hx hb d_M_turns_52 rfl (lv_at hl 0 rfl) ?_
              refine gf_M_18 hx hb ht hown hK hP 0 rfl d_M_turns_53 ?_
              refine lv_iload_n hx hb d_M_turns_56 rfl (lv_at hl 3 rfl) ?_
              refine rw_iald (v := (nI (S k))) hx hb hK hP 2 rfl (by omega) (by omega) (h3 _ (by omega)) d_M_turns_57 ?_
              refine lv_iload_n hx hb d_M_turns_58 rfl (lv_at hl 3 rfl) ?_
              refine rw_cne (tgt := 66) hx hb d_M_turns_59 (by decide) (by omega) (by omega) (fun c3 => ?_) (fun c3 => ?_)
              · refine lv_iconst (v := (nI 0)) hx hb d_M_turns_66 (by decide) ?_
                refine lv_istore_n (lv' := [(2, .int (nI 0)), (0, .ref h), (1, .int (nI c0)), (3, .int (nI k))]) hx hb d_M_turns_67 rfl hl (by decide) rfl (fun ls hl => ?_)
                refine lv_iinc (v := (nI (k + 1))) (lv' := [(3, .int (nI (k + 1))), (2, .int (nI 0)), (0, .ref h), (1, .int (nI c0))]) hx hb d_M_turns_68 hl (k := 3) rfl (nI_add k 1) (by decide) rfl (fun ls hl => ?_)
                refine lv_goto (tgt := 40) hx hb d_M_turns_71 (by decide) ?_
                have e1 : (pf_upto (fun i => Nat.beq (S i) i) (k + 1)).toNat = 0 := bt_n (nb_ne c3)
                refine ihq (k + 1) ls (by omega) ?_
                rw [e1]
                exact (lv_sub hl [2, 3, 1, 0] rfl)
              · refine lv_iconst (v := (nI 1)) hx hb d_M_turns_62 (by decide) ?_
                refine lv_goto (tgt := 67) hx hb d_M_turns_63 (by decide) ?_
                refine lv_istore_n (lv' := [(2, .int (nI 1)), (0, .ref h), (1, .int (nI c0)), (3, .int (nI k))]) hx hb d_M_turns_67 rfl hl (by decide) rfl (fun ls hl => ?_)
                refine lv_iinc (v := (nI (k + 1))) (lv' := [(3, .int (nI (k + 1))), (2, .int (nI 1)), (0, .ref h), (1, .int (nI c0))]) hx hb d_M_turns_68 hl (k := 3) rfl (nI_add k 1) (by decide) rfl (fun ls hl => ?_)
                refine lv_goto (tgt := 40) hx hb d_M_turns_71 (by decide) ?_
                have e1 : (pf_upto (fun i => Nat.beq (S i) i) (k + 1)).toNat = 1 := bt_1 c2 (nb_eq c3)
                refine ihq (k + 1) ls (by omega) ?_
                rw [e1]
                exact (lv_sub hl [2, 3, 1, 0] rfl)
      refine lv_iload_n hx hb d_M_turns_32 rfl (lv_at hl 2 rfl) ?_
      refine rw_zne (tgt := 146) hx hb d_M_turns_33 (by decide) (by omega) (fun c1 => ?_) (fun c1 => ?_)
      · exact absurd rfl c1
      · refine lv_iconst (v := (nI 1)) hx hb d_M_turns_36 (by decide) ?_
        refine lv_istore_n (lv' := [(2, .int (nI 1)), (0, .ref h), (1, .int (nI c0))]) hx hb d_M_turns_37 rfl hl (by decide) rfl (fun ls hl => ?_)
        refine lv_iconst (v := (nI 0)) hx hb d_M_turns_38 (by decide) ?_
        refine lv_istore_n (lv' := [(3, .int (nI 0)), (2, .int (nI 1)), (0, .ref h), (1, .int (nI c0))]) hx hb d_M_turns_39 rfl hl (by decide) rfl (fun ls hl => ?_)
        exact li n 0 ls (by omega) (lv_sub hl [2, 3, 1, 0] rfl)
  have la : ∀ (t i : Nat) (g : Nat → Int32) (H : Heap) (locs : List Loc) (ls : Array Slot), i + t = n → (∀ j, j < i → g j = nI (P j)) → va_P D classes [(h, .inr (2, [.int (nI n), .ref pa, .ref qa, .ref la])), (pa, .inl (cA, 8, .inl fp)), (qa, .inl (cA, 8, .inl g)), (la, .inl (cA, 8, .inl fl))] H → va_D A [(h, .inr (2, [.int (nI n), .ref pa, .ref qa, .ref la])), (pa, .inl (cA, 8, .inl fp)), (qa, .inl (cA, 8, .inl g)), (la, .inl (cA, 8, .inl fl))] → va_S A s.heap H locs → lv_has ls 4 [(0, .ref h), (1, .int (nI i))] → W p l e { frames := 0, cells := 0, slots := 0, locals := 0 } s m ([.ref h] : List Value).toArray below meth c H locs 0 0 Q (F0 m 2 ls []) := by
    intro t
    induction t with
    | zero =>
      intro i g H locs ls hi k1 hP hD hS hl
      refine lv_iload_n hx hb d_M_turns_2 rfl (lv_at hl 1 rfl) ?_
      refine lv_aload_n hx hb d_M_turns_3 rfl (lv_at hl 0 rfl) ?_
      refine gf_M_2 hx hb ht hown hK hP 0 rfl d_M_turns_4 ?_
      refine rw_cge (tgt := 28) hx hb d_M_turns_7 (by decide) (by omega) (by omega) (fun c1 => ?_) (fun c1 => ?_)
      · refine lv_iconst (v := (nI 1)) hx hb d_M_turns_28 (by decide) ?_
        refine lv_istore_n (lv' := [(1, .int (nI 1)), (0, .ref h)]) hx hb d_M_turns_29 rfl hl (by decide) rfl (fun ls hl => ?_)
        refine lv_iconst (v := (nI 0)) hx hb d_M_turns_30 (by decide) ?_
        refine lv_istore_n (lv' := [(2, .int (nI 0)), (1, .int (nI 1)), (0, .ref h)]) hx hb d_M_turns_31 rfl hl (by decide) rfl (fun ls hl => ?_)
        exact lb 13 1 P g fl H locs ls (by omega) hPn (fun k hk => k1 k (by omega)) hok rfl hP hD hS (lv_sub hl [2, 1, 0] rfl)
      · exact absurd c1 (by omega)
    | succ t ih =>
      intro i g H locs ls hi k1 hP hD hS hl
      refine lv_iload_n hx hb d_M_turns_2 rfl (lv_at hl 1 rfl) ?_
      refine lv_aload_n hx hb d_M_turns_3 rfl (lv_at hl 0 rfl) ?_
      refine gf_M_2 hx hb ht hown hK hP 0 rfl d_M_turns_4 ?_
      refine rw_cge (tgt := 28) hx hb d_M_turns_7 (by decide) (by omega) (by omega) (fun c1 => ?_) (fun c1 => ?_)
      · exact absurd c1 (by omega)
      · refine lv_aload_n hx hb d_M_turns_10 rfl (lv_at hl 0 rfl) ?_
        refine gf_M_18 hx hb ht hown hK hP 0 rfl d_M_turns_11 ?_
        refine lv_iload_n hx hb d_M_turns_14 rfl (lv_at hl 1 rfl) ?_
        refine lv_aload_n hx hb d_M_turns_15 rfl (lv_at hl 0 rfl) ?_
        refine gf_M_8 hx hb ht hown hK hP 0 rfl d_M_turns_16 ?_
        refine lv_iload_n hx hb d_M_turns_19 rfl (lv_at hl 1 rfl) ?_
        refine rw_iald (v := (nI (P i))) hx hb hK hP 1 rfl (by omega) (by omega) (hfp _ (by omega)) d_M_turns_20 ?_
        refine rw_iast (k := i) hx hb hK hP hD hS 2 rfl (by omega) (by omega) d_M_turns_21 (fun H locs hP hD hS => ?_)
        have hP : va_P D classes [(h, .inr (2, [.int (nI n), .ref pa, .ref qa, .ref la])), (pa, .inl (cA, 8, .inl fp)), (qa, .inl (cA, 8, .inl (upd g i ((nI (P i)))))), (la, .inl (cA, 8, .inl fl))] H := hP
        have hD : va_D A [(h, .inr (2, [.int (nI n), .ref pa, .ref qa, .ref la])), (pa, .inl (cA, 8, .inl fp)), (qa, .inl (cA, 8, .inl (upd g i ((nI (P i)))))), (la, .inl (cA, 8, .inl fl))] := hD
        refine lv_iinc (v := (nI (i + 1))) (lv' := [(1, .int (nI (i + 1))), (0, .ref h)]) hx hb d_M_turns_22 hl (k := 1) rfl (nI_add i 1) (by decide) rfl (fun ls hl => ?_)
        refine lv_goto (tgt := 2) hx hb d_M_turns_25 (by decide) ?_
        exact ih (i + 1) (upd g i (nI (P i))) H locs ls (by omega) (up_st (E := P) k1) hP hD hS (lv_sub hl [1, 0] rfl)
  refine lv_iconst (v := (nI 0)) hx hb d_M_turns_0 (by decide) ?_
  refine lv_istore_n (lv' := [(1, .int (nI 0)), (0, .ref h)]) hx hb d_M_turns_1 rfl hl (by decide) rfl (fun ls hl => ?_)
  exact la n 0 fq s.heap [] ls (by omega) (fun j hj => absurd hj (Nat.not_lt_zero j)) hP hD hS (lv_sub hl [1, 0] rfl)
set_option maxHeartbeats 4000000 in
set_option maxRecDepth 100000 in
/-- RankDeskModel.powers -/
theorem c_M_powers (l : Launch) (D : va_G) (cA : ClassId) (sz h pa qa la : Nat) (fp fq fl : Nat → Int32) (P : Nat → Nat) (a : Int32) (n : Nat) (hn0 : 1 ≤ n) (hn : n ≤ 7) (hP8 : ∀ k, P k < 8) (hPn : ∀ k, k < n → P k < n) (hfp : ∀ k, k < n → fp k = nI (P k)) : Met l y_M_powers wz_M_powers { frames := 0, cells := 0, slots := 0, locals := 0 } (va_Pc [.ref h, .int a] (wd_Z D cA sz [(h, .inr (2, [.int (nI n), .ref pa, .ref qa, .ref la])), (pa, .inl (cA, 8, .inl fp)), (qa, .inl (cA, 8, .inl fq)), (la, .inl (cA, 8, .inl fl))])) (va_Qi (fun (r_ : Int32) (u : (Nat → Int32) × (Nat → Int32)) => r_ = nI (pf_pk (pf_it P (zn_m a)) n 0)) (fun u t => wd_T D cA (va_A [(h, .inr (2, [.int (nI n), .ref pa, .ref qa, .ref la])), (pa, .inl (cA, 8, .inl fp)), (qa, .inl (cA, 8, .inl fq)), (la, .inl (cA, 8, .inl fl))] sz) [(h, .inr (2, [.int (nI n), .ref pa, .ref qa, .ref la])), (pa, .inl (cA, 8, .inl fp)), (qa, .inl (cA, 8, .inl u.1)), (la, .inl (cA, 8, .inl u.2))] t) (va_A [(h, .inr (2, [.int (nI n), .ref pa, .ref qa, .ref la])), (pa, .inl (cA, 8, .inl fp)), (qa, .inl (cA, 8, .inl fq)), (la, .inl (cA, 8, .inl fl))] sz)) 0 0 (va_A [(h, .inr (2, [.int (nI n), .ref pa, .ref qa, .ref la])), (pa, .inl (cA, 8, .inl fp)), (qa, .inl (cA, 8, .inl fq)), (la, .inl (cA, 8, .inl fl))] sz) := by
  refine Met.ofW (cc := b_M_powers) (maxL := 5) (ret := (some .int)) (by decide) rfl ?_
  intro p e s m args below meth c s₁ B hml hv
  obtain ⟨rfl, hsz, hP, hK, hD0⟩ := hv
  have hx := B.exec
  have hb := B.bytes
  have hr := B.returns
  have hlocks := B.notSynchronized
  have hown : s.vm.findClass "RankDeskModel" = some m.cls := findClass_of_methodNamed B.named
  have ht : ∀ w ∈ lw_g, w.before ([.ref h, .int a] : List Value).toArray s = true := fun w hw => atoms_spec (ws := wz_M_powers) B.pre w (List.mem_cons_of_mem _ hw)
  subst hsz
  have hD := hD0.self (sz := s.heap.size)
  obtain ⟨A, hAe⟩ : ∃ A, A = va_A [(h, .inr (2, [.int (nI n), .ref pa, .ref qa, .ref la])), (pa, .inl (cA, 8, .inl fp)), (qa, .inl (cA, 8, .inl fq)), (la, .inl (cA, 8, .inl fl))] s.heap.size := ⟨_, rfl⟩
  rw [← hAe] at hD ⊢
  have hA : ∀ q : Nat, s.heap.size ≤ q → A q := fun q h => by rw [hAe]; exact Or.inr h
  have hS : va_S A s.heap s.heap [] := va_S.rf
  have hP : va_P D classes [(h, .inr (2, [.int (nI n), .ref pa, .ref qa, .ref la])), (pa, .inl (cA, 8, .inl fp)), (qa, .inl (cA, 8, .inl fq)), (la, .inl (cA, 8, .inl fl))] s.heap := hP
  obtain ⟨Q, hQ⟩ : ∃ Q, Q = MQ below (va_Qi (fun (r_ : Int32) (u : (Nat → Int32) × (Nat → Int32)) => r_ = nI (pf_pk (pf_it P (zn_m a)) n 0)) (fun u t => wd_T D cA A [(h, .inr (2, [.int (nI n), .ref pa, .ref qa, .ref la])), (pa, .inl (cA, 8, .inl fp)), (qa, .inl (cA, 8, .inl u.1)), (la, .inl (cA, 8, .inl u.2))] t) A) ([.ref h, .int a] : List Value).toArray s 0 0 A := ⟨_, rfl⟩
  rw [← hQ]
  have hl := lv_entry ([.ref h, .int a]) (n := 5) (Nat.le_of_ble_eq_true rfl)
  rw [lg_entry_eq]
  generalize (lg_sl ([.ref h, .int a]) ++ List.replicate (5 - (lg_sl ([.ref h, .int a])).length) Slot.unset).toArray = ls at hl ⊢
  have hl : lv_has ls 5 [(0, .ref h), (1, .int a)] := hl
  show W p l e { frames := 0, cells := 0, slots := 0, locals := 0 } s m ([.ref h, .int a] : List Value).toArray below meth c s.heap [] 0 0 Q (F0 m 0 ls [])
  have hm8 := zn_mlt a
  have lr : ∀ (j x : Nat) (g gl : Nat → Int32) (H : Heap) (locs : List Loc) (ls : Array Slot), j ≤ n → x < 2 ^ (3 * (7 - j)) → (∀ k, k < n → g k = nI (pf_it P (zn_m a) k)) → pf_pk (pf_it P (zn_m a)) j x = pf_pk (pf_it P (zn_m a)) n 0 → va_P D classes [(h, .inr (2, [.int (nI n), .ref pa, .ref qa, .ref la])), (pa, .inl (cA, 8, .inl fp)), (qa, .inl (cA, 8, .inl g)), (la, .inl (cA, 8, .inl gl))] H → va_D A [(h, .inr (2, [.int (nI n), .ref pa, .ref qa, .ref la])), (pa, .inl (cA, 8, .inl fp)), (qa, .inl (cA, 8, .inl g)), (la, .inl (cA, 8, .inl gl))] → va_S A s.heap H locs → lv_has ls 5 [(0, .ref h), (3, .int (nI x)), (4, .int (dI j))] → W p l e { frames := 0, cells := 0, slots := 0, locals := 0 } s m ([.ref h, .int a] : List Value).toArray below meth c H locs 0 0 Q (F0 m 121 ls []) := by
    intro j
    induction j with
    | zero =>
      intro x g gl H locs ls h1 h2 h3 h4 hP hD hS hl
      have h4 : x = pf_pk (pf_it P (zn_m a)) n 0 := h4
      refine lv_iload hx hb d_M_powers_121 (lv_at hl 2 rfl) ?_
      refine rw_dlt0 (tgt := 145) hx hb d_M_powers_123 (by decide) ?_
      refine lv_iload_n hx hb d_M_powers_145 rfl (lv_at hl 1 rfl) ?_
      refine rw_top (y := (nI (pf_pk (pf_it P (zn_m a)) n 0))) (by rw [h4]) ?_
      have hP9 := hP.sub (ws' := [(h, .inr (2, [.int (nI n), .ref pa, .ref qa, .ref la])), (pa, .inl (cA, 8, .inl fp)), (qa, .inl (cA, 8, .inl g)), (la, .inl (cA, 8, .inl gl))]) [0, 1, 2, 3] rfl
      have hD9 := hD.sub (ws' := [(h, .inr (2, [.int (nI n), .ref pa, .ref qa, .ref la])), (pa, .inl (cA, 8, .inl fp)), (qa, .inl (cA, 8, .inl g)), (la, .inl (cA, 8, .inl gl))]) [0, 1, 2, 3] (by decide) rfl
      rw [hQ]
      exact W.iret (v := (nI (pf_pk (pf_it P (zn_m a)) n 0))) hx hb hr (fun t ht hW => ⟨⟨(nI (pf_pk (pf_it P (zn_m a)) n 0)), (g, gl), rfl, rfl, by rw [ht]; exact hP9, va_K.moved hW.alike hK, hD9⟩, hS.F ht⟩) hS.2.2 d_M_powers_146
    | succ j ih =>
      intro x g gl H locs ls h1 h2 h3 h4 hP hD hS hl
      rw [dI_succ] at hl
      have hq := zn_p3 (show j < 7 by omega)
      have hq2 := zn_p3le j
      have hlt := pf_it_lt hPn (zn_m a) j (by omega)
      refine lv_iload hx hb d_M_powers_121 (lv_at hl 2 rfl) ?_
      refine rw_dlt1 (tgt := 145) hx hb d_M_powers_123 (by decide) (by omega) ?_
      refine lv_bipush (v := (nI 8)) hx hb d_M_powers_126 (by decide) ?_
      refine lv_iload_n hx hb d_M_powers_128 rfl (lv_at hl 1 rfl) ?_
      refine rw_imul (r := 8 * x) hx hb d_M_powers_129 rfl ?_
      refine lv_aload_n hx hb d_M_powers_130 rfl (lv_at hl 0 rfl) ?_
      refine gf_M_18 hx hb ht hown hK hP 0 rfl d_M_powers_131 ?_
      refine lv_iload hx hb d_M_powers_134 (lv_at hl 2 rfl) ?_
      refine rw_iald (v := (nI (pf_it P (zn_m a) j))) hx hb hK hP 2 rfl (by omega) (by omega) (h3 _ (by omega)) d_M_powers_136 ?_
      refine rw_iadd (r := (8 * x) + (pf_it P (zn_m a) j)) hx hb d_M_powers_137 rfl ?_
      refine lv_istore_n (lv' := [(3, .int (nI ((8 * x) + (pf_it P (zn_m a) j)))), (0, .ref h), (4, .int (nI j))]) hx hb d_M_powers_138 rfl hl (by decide) rfl (fun ls hl => ?_)
      refine lv_iinc (v := (dI j)) (lv' := [(4, .int (dI j)), (3, .int (nI ((8 * x) + (pf_it P (zn_m a) j)))), (0, .ref h)]) hx hb d_M_powers_139 hl (k := 2) rfl (dI_dec j) (by decide) rfl (fun ls hl => ?_)
      refine lv_goto (tgt := 121) hx hb d_M_powers_142 (by decide) ?_
      exact ih (8 * x + pf_it P (zn_m a) j) g gl H locs ls (by omega) (by omega) h3 h4 hP hD hS (lv_sub hl [2, 1, 0] rfl)
  have lb : ∀ (t c0 : Nat) (g gl : Nat → Int32) (H : Heap) (locs : List Loc) (ls : Array Slot), c0 + t = zn_m a → (∀ k, k < n → g k = nI (pf_it P c0 k)) → va_P D classes [(h, .inr (2, [.int (nI n), .ref pa, .ref qa, .ref la])), (pa, .inl (cA, 8, .inl fp)), (qa, .inl (cA, 8, .inl g)), (la, .inl (cA, 8, .inl gl))] H → va_D A [(h, .inr (2, [.int (nI n), .ref pa, .ref qa, .ref la])), (pa, .inl (cA, 8, .inl fp)), (qa, .inl (cA, 8, .inl g)), (la, .inl (cA, 8, .inl gl))] → va_S A s.heap H locs → lv_has ls 5 [(0, .ref h), (2, .int (nI (zn_m a))), (3, .int (nI c0))] → W p l e { frames := 0, cells := 0, slots := 0, locals := 0 } s m ([.ref h, .int a] : List Value).toArray below meth c H locs 0 0 Q (F0 m 31 ls []) := by
    intro t
    induction t with
    | zero =>
      intro c0 g gl H locs ls hc h3 hP hD hS hl
      refine lv_iload_n hx hb d_M_powers_31 rfl (lv_at hl 2 rfl) ?_
      refine lv_iload_n hx hb d_M_powers_32 rfl (lv_at hl 1 rfl) ?_
      refine rw_cge (tgt := 111) hx hb d_M_powers_33 (by decide) (by omega) (by omega) (fun c1 => ?_) (fun c1 => ?_)
      · rw [show c0 = zn_m a by omega] at h3
        refine lv_iconst (v := (nI 0)) hx hb d_M_powers_111 (by decide) ?_
        refine lv_istore_n (lv' := [(3, .int (nI 0)), (0, .ref h), (2, .int (nI (zn_m a)))]) hx hb d_M_powers_112 rfl hl (by decide) rfl (fun ls hl => ?_)
        refine lv_aload_n hx hb d_M_powers_113 rfl (lv_at hl 1 rfl) ?_
        refine gf_M_2 hx hb ht hown hK hP 0 rfl d_M_powers_114 ?_
        refine lv_iconst (v := (nI 1)) hx hb d_M_powers_117 (by decide) ?_
        refine rw_isubD hx hb d_M_powers_118 ?_
        refine lv_istore (lv' := [(4, .int (dI n)), (3, .int (nI 0)), (0, .ref h), (2, .int (nI (zn_m a)))]) hx hb d_M_powers_119 hl (by decide) rfl (fun ls hl => ?_)
        exact lr n 0 g gl H locs ls (Nat.le_refl n) (Nat.two_pow_pos _) h3 rfl hP hD hS (lv_sub hl [2, 1, 0] rfl)
      · exact absurd c1 (by omega)
    | succ t ih =>
      intro c0 g gl H locs ls hc h3 hP hD hS hl
      have lq : ∀ (t i : Nat) (g2 gl2 : Nat → Int32) (H : Heap) (locs : List Loc) (ls : Array Slot), i + t = n → (∀ j, j < n → gl2 j = nI (pf_it P (c0 + 1) j)) → (∀ j, j < i → g2 j = nI (pf_it P (c0 + 1) j)) → va_P D classes [(h, .inr (2, [.int (nI n), .ref pa, .ref qa, .ref la])), (pa, .inl (cA, 8, .inl fp)), (qa, .inl (cA, 8, .inl g2)), (la, .inl (cA, 8, .inl gl2))] H → va_D A [(h, .inr (2, [.int (nI n), .ref pa, .ref qa, .ref la])), (pa, .inl (cA, 8, .inl fp)), (qa, .inl (cA, 8, .inl g2)), (la, .inl (cA, 8, .inl gl2))] → va_S A s.heap H locs → lv_has ls 5 [(0, .ref h), (2, .int (nI (zn_m a))), (3, .int (nI c0)), (4, .int (nI i))] → W p l e { frames := 0, cells := 0, slots := 0, locals := 0 } s m ([.ref h, .int a] : List Value).toArray below meth c H locs 0 0 Q (F0 m 76 ls []) := by
        intro t
        induction t with
        | zero =>
          intro i g2 gl2 H locs ls hi k1 k2 hP hD hS hl
          refine lv_iload hx hb d_M_powers_76 (lv_at hl 3 rfl) ?_
          refine lv_aload_n hx hb d_M_powers_78 rfl (lv_at hl 0 rfl) ?_
          refine gf_M_2 hx hb ht hown hK hP 0 rfl d_M_powers_79 ?_
          refine rw_cge (tgt := 105) hx hb d_M_powers_82 (by decide) (by omega) (by omega) (fun c1 => ?_) (fun c1 => ?_)
          · refine lv_iinc (v := (nI (c0 + 1))) (lv' := [(3, .int (nI (c0 + 1))), (0, .ref h), (2, .int (nI (zn_m a))), (4, .int (nI i))]) hx hb d_M_powers_105 hl (k := 2) rfl (nI_add c0 1) (by decide) rfl (fun ls hl => ?_)
            refine lv_goto (tgt := 31) hx hb d_M_powers_108 (by decide) ?_
            exact ih (c0 + 1) g2 gl2 H locs ls (by omega) (fun k hk => k2 k (by omega)) hP hD hS (lv_sub hl [1, 2, 0] rfl)
          · exact absurd c1 (by omega)
        | succ t ihq =>
          intro i g2 gl2 H locs ls hi k1 k2 hP hD hS hl
          refine lv_iload hx hb d_M_powers_76 (lv_at hl 3 rfl) ?_
          refine lv_aload_n hx hb d_M_powers_78 rfl (lv_at hl 0 rfl) ?_
          refine gf_M_2 hx hb ht hown hK hP 0 rfl d_M_powers_79 ?_
          refine rw_cge (tgt := 105) hx hb d_M_powers_82 (by decide) (by omega) (by omega) (fun c1 => ?_) (fun c1 => ?_)
          · exact absurd c1 (by omega)
          · refine lv_aload_n hx hb d_M_powers_85 rfl (lv_at hl 0 rfl) ?_
            refine gf_M_18 hx hb ht hown hK hP 0 rfl d_M_powers_86 ?_
            refine lv_iload hx hb d_M_powers_89 (lv_at hl 3 rfl) ?_
            refine lv_aload_n hx hb d_M_powers_91 rfl (lv_at hl 0 rfl) ?_
            refine gf_M_21 hx hb ht hown hK hP 0 rfl d_M_powers_92 ?_
            refine lv_iload hx hb d_M_powers_95 (lv_at hl 3 rfl) ?_
            refine rw_iald (v := (nI (pf_it P (c0 + 1) i))) hx hb hK hP 3 rfl (by omega) (by omega) (k1 _ (by omega)) d_M_powers_97 ?_
            refine rw_iast (k := i) hx hb hK hP hD hS 2 rfl (by omega) (by omega) d_M_powers_98 (fun H locs hP hD hS => ?_)
            have hP : va_P D classes [(h, .inr (2, [.int (nI n), .ref pa, .ref qa, .ref la])), (pa, .inl (cA, 8, .inl fp)), (qa, .inl (cA, 8, .inl (upd g2 i ((nI (pf_it P (c0 + 1) i)))))), (la, .inl (cA, 8, .inl gl2))] H := hP
            have hD : va_D A [(h, .inr (2, [.int (nI n), .ref pa, .ref qa, .ref la])), (pa, .inl (cA, 8, .inl fp)), (qa, .inl (cA, 8, .inl (upd g2 i ((nI (pf_it P (c0 + 1) i)))))), (la, .inl (cA, 8, .inl gl2))] := hD
            refine lv_iinc (v := (nI (i + 1))) (lv' := [(4, .int (nI (i + 1))), (0, .ref h), (2, .int (nI (zn_m a))), (3, .int (nI c0))]) hx hb d_M_powers_99 hl (k := 3) rfl (nI_add i 1) (by decide) rfl (fun ls hl => ?_)
            refine lv_goto (tgt := 76) hx hb d_M_powers_102 (by decide) ?_
            exact ihq (i + 1) (upd g2 i (nI (pf_it P (c0 + 1) i))) gl2 H locs ls (by omega) k1 (up_st (E := pf_it P (c0 + 1)) k2) hP hD hS (lv_sub hl [1, 2, 3, 0] rfl)
      have ll : ∀ (t i : Nat) (gl2 : Nat → Int32) (H : Heap) (locs : List Loc) (ls : Array Slot), i + t = n → (∀ j, j < i → gl2 j = nI (pf_it P (c0 + 1) j)) → va_P D classes [(h, .inr (2, [.int (nI n), .ref pa, .ref qa, .ref la])), (pa, .inl (cA, 8, .inl fp)), (qa, .inl (cA, 8, .inl g)), (la, .inl (cA, 8, .inl gl2))] H → va_D A [(h, .inr (2, [.int (nI n), .ref pa, .ref qa, .ref la])), (pa, .inl (cA, 8, .inl fp)), (qa, .inl (cA, 8, .inl g)), (la, .inl (cA, 8, .inl gl2))] → va_S A s.heap H locs → lv_has ls 5 [(0, .ref h), (2, .int (nI (zn_m a))), (3, .int (nI c0)), (4, .int (nI i))] → W p l e { frames := 0, cells := 0, slots := 0, locals := 0 } s m ([.ref h, .int a] : List Value).toArray below meth c H locs 0 0 Q (F0 m 39 ls []) := by
        intro t
        induction t with
        | zero =>
          intro i gl2 H locs ls hi k1 hP hD hS hl
          refine lv_iload hx hb d_M_powers_39 (lv_at hl 3 rfl) ?_
          refine lv_aload_n hx hb d_M_powers_41 rfl (lv_at hl 0 rfl) ?_
          refine gf_M_2 hx hb ht hown hK hP 0 rfl d_M_powers_42 ?_
          refine rw_cge (tgt := 73) hx hb d_M_powers_45 (by decide) (by omega) (by omega) (fun c1 => ?_) (fun c1 => ?_)
          · refine lv_iconst (v := (nI 0)) hx hb d_M_powers_73 (by decide) ?_
            refine lv_istore (lv' := [(4, .int (nI 0)), (0, .ref h), (2, .int (nI (zn_m a))), (3, .int (nI c0))]) hx hb d_M_powers_74 hl (by decide) rfl (fun ls hl => ?_)
            exact lq n 0 g gl2 H locs ls (by omega) (fun j hj => k1 j (by omega)) (fun j hj => absurd hj (Nat.not_lt_zero j)) hP hD hS (lv_sub hl [1, 2, 3, 0] rfl)
          · exact absurd c1 (by omega)
        | succ t ihq =>
          intro i gl2 H locs ls hi k1 hP hD hS hl
          have hlt := pf_it_lt hPn c0 i (by omega)
          refine lv_iload hx hb d_M_powers_39 (lv_at hl 3 rfl) ?_
          refine lv_aload_n hx hb d_M_powers_41 rfl (lv_at hl 0 rfl) ?_
          refine gf_M_2 hx hb ht hown hK hP 0 rfl d_M_powers_42 ?_
          refine rw_cge (tgt := 73) hx hb d_M_powers_45 (by decide) (by omega) (by omega) (fun c1 => ?_) (fun c1 => ?_)
          · exact absurd c1 (by omega)
          · refine lv_aload_n hx hb d_M_powers_48 rfl (lv_at hl 0 rfl) ?_
            refine gf_M_21 hx hb ht hown hK hP 0 rfl d_M_powers_49 ?_
            refine lv_iload hx hb d_M_powers_52 (lv_at hl 3 rfl) ?_
            refine lv_aload_n hx hb d_M_powers_54 rfl (lv_at hl 0 rfl) ?_
            refine gf_M_8 hx hb ht hown hK hP 0 rfl d_M_powers_55 ?_
            refine lv_aload_n hx hb d_M_powers_58 rfl (lv_at hl 0 rfl) ?_
            refine gf_M_18 hx hb ht hown hK hP 0 rfl d_M_powers_59 ?_
            refine lv_iload hx hb d_M_powers_62 (lv_at hl 3 rfl) ?_
            refine rw_iald (v := (nI (pf_it P c0 i))) hx hb hK hP 2 rfl (by omega) (by omega) (h3 _ (by omega)) d_M_powers_64 ?_
            refine rw_iald (v := (nI (pf_it P (c0 + 1) i))) hx hb hK hP 1 rfl (by omega) (by omega) (hfp _ (by omega)) d_M_powers_65 ?_
            refine rw_iast (k := i) hx hb hK hP hD hS 3 rfl (by omega) (by omega) d_M_powers_66 (fun H locs hP hD hS => ?_)
            have hP : va_P D classes [(h, .inr (2, [.int (nI n), .ref pa, .ref qa, .ref la])), (pa, .inl (cA, 8, .inl fp)), (qa, .inl (cA, 8, .inl g)), (la, .inl (cA, 8, .inl (upd gl2 i ((nI (pf_it P (c0 + 1) i))))))] H := hP
            have hD : va_D A [(h, .inr (2, [.int (nI n), .ref pa, .ref qa, .ref la])), (pa, .inl (cA, 8, .inl fp)), (qa, .inl (cA, 8, .inl g)), (la, .inl (cA, 8, .inl (upd gl2 i ((nI (pf_it P (c0 + 1) i))))))] := hD
            refine lv_iinc (v := (nI (i + 1))) (lv' := [(4, .int (nI (i + 1))), (0, .ref h), (2, .int (nI (zn_m a))), (3, .int (nI c0))]) hx hb d_M_powers_67 hl (k := 3) rfl (nI_add i 1) (by decide) rfl (fun ls hl => ?_)
            refine lv_goto (tgt := 39) hx hb d_M_powers_70 (by decide) ?_
            exact ihq (i + 1) (upd gl2 i (nI (pf_it P (c0 + 1) i))) H locs ls (by omega) (up_st (E := pf_it P (c0 + 1)) k1) hP hD hS (lv_sub hl [1, 2, 3, 0] rfl)
      refine lv_iload_n hx hb d_M_powers_31 rfl (lv_at hl 2 rfl) ?_
      refine lv_iload_n hx hb d_M_powers_32 rfl (lv_at hl 1 rfl) ?_
      refine rw_cge (tgt := 111) hx hb d_M_powers_33 (by decide) (by omega) (by omega) (fun c1 => ?_) (fun c1 => ?_)
      · exact absurd c1 (by omega)
      · refine lv_iconst (v := (nI 0)) hx hb d_M_powers_36 (by decide) ?_
        refine lv_istore (lv' := [(4, .int (nI 0)), (0, .ref h), (2, .int (nI (zn_m a))), (3, .int (nI c0))]) hx hb d_M_powers_37 hl (by decide) rfl (fun ls hl => ?_)
        exact ll n 0 gl H locs ls (by omega) (fun j hj => absurd hj (Nat.not_lt_zero j)) hP hD hS (lv_sub hl [1, 2, 3, 0] rfl)
  have la : ∀ (t i : Nat) (g : Nat → Int32) (H : Heap) (locs : List Loc) (ls : Array Slot), i + t = n → (∀ j, j < i → g j = nI j) → va_P D classes [(h, .inr (2, [.int (nI n), .ref pa, .ref qa, .ref la])), (pa, .inl (cA, 8, .inl fp)), (qa, .inl (cA, 8, .inl g)), (la, .inl (cA, 8, .inl fl))] H → va_D A [(h, .inr (2, [.int (nI n), .ref pa, .ref qa, .ref la])), (pa, .inl (cA, 8, .inl fp)), (qa, .inl (cA, 8, .inl g)), (la, .inl (cA, 8, .inl fl))] → va_S A s.heap H locs → lv_has ls 5 [(0, .ref h), (1, .int a), (2, .int (nI i))] → W p l e { frames := 0, cells := 0, slots := 0, locals := 0 } s m ([.ref h, .int a] : List Value).toArray below meth c H locs 0 0 Q (F0 m 2 ls []) := by
    intro t
    induction t with
    | zero =>
      intro i g H locs ls hi k1 hP hD hS hl
      refine lv_iload_n hx hb d_M_powers_2 rfl (lv_at hl 2 rfl) ?_
      refine lv_aload_n hx hb d_M_powers_3 rfl (lv_at hl 0 rfl) ?_
      refine gf_M_2 hx hb ht hown hK hP 0 rfl d_M_powers_4 ?_
      refine rw_cge (tgt := 23) hx hb d_M_powers_7 (by decide) (by omega) (by omega) (fun c1 => ?_) (fun c1 => ?_)
      · refine lv_iload_n hx hb d_M_powers_23 rfl (lv_at hl 1 rfl) ?_
        refine lv_sipush (v := (nI 255)) hx hb d_M_powers_24 (by decide) ?_
        refine lv_iand hx hb d_M_powers_27 ?_
        refine rw_top (y := (nI (zn_m a))) (zn_mm a) ?_
        refine lv_istore_n (lv' := [(2, .int (nI (zn_m a))), (0, .ref h), (1, .int a)]) hx hb d_M_powers_28 rfl hl (by decide) rfl (fun ls hl => ?_)
        refine lv_iconst (v := (nI 0)) hx hb d_M_powers_29 (by decide) ?_
        refine lv_istore_n (lv' := [(3, .int (nI 0)), (2, .int (nI (zn_m a))), (0, .ref h), (1, .int a)]) hx hb d_M_powers_30 rfl hl (by decide) rfl (fun ls hl => ?_)
        exact lb (zn_m a) 0 g fl H locs ls (by omega) (fun k hk => k1 k (by omega)) hP hD hS (lv_sub hl [2, 1, 0] rfl)
      · exact absurd c1 (by omega)
    | succ t ih =>
      intro i g H locs ls hi k1 hP hD hS hl
      refine lv_iload_n hx hb d_M_powers_2 rfl (lv_at hl 2 rfl) ?_
      refine lv_aload_n hx hb d_M_powers_3 rfl (lv_at hl 0 rfl) ?_
      refine gf_M_2 hx hb ht hown hK hP 0 rfl d_M_powers_4 ?_
      refine rw_cge (tgt := 23) hx hb d_M_powers_7 (by decide) (by omega) (by omega) (fun c1 => ?_) (fun c1 => ?_)
      · exact absurd c1 (by omega)
      · refine lv_aload_n hx hb d_M_powers_10 rfl (lv_at hl 0 rfl) ?_
        refine gf_M_18 hx hb ht hown hK hP 0 rfl d_M_powers_11 ?_
        refine lv_iload_n hx hb d_M_powers_14 rfl (lv_at hl 2 rfl) ?_
        refine lv_iload_n hx hb d_M_powers_15 rfl (lv_at hl 2 rfl) ?_
        refine rw_iast (k := i) hx hb hK hP hD hS 2 rfl (by omega) (by omega) d_M_powers_16 (fun H locs hP hD hS => ?_)
        have hP : va_P D classes [(h, .inr (2, [.int (nI n), .ref pa, .ref qa, .ref la])), (pa, .inl (cA, 8, .inl fp)), (qa, .inl (cA, 8, .inl (upd g i ((nI i))))), (la, .inl (cA, 8, .inl fl))] H := hP
        have hD : va_D A [(h, .inr (2, [.int (nI n), .ref pa, .ref qa, .ref la])), (pa, .inl (cA, 8, .inl fp)), (qa, .inl (cA, 8, .inl (upd g i ((nI i))))), (la, .inl (cA, 8, .inl fl))] := hD
        refine lv_iinc (v := (nI (i + 1))) (lv' := [(2, .int (nI (i + 1))), (0, .ref h), (1, .int a)]) hx hb d_M_powers_17 hl (k := 2) rfl (nI_add i 1) (by decide) rfl (fun ls hl => ?_)
        refine lv_goto (tgt := 2) hx hb d_M_powers_20 (by decide) ?_
        exact ih (i + 1) (upd g i (nI i)) H locs ls (by omega) (up_st (E := fun j => j) k1) hP hD hS (lv_sub hl [1, 2, 0] rfl)
  refine lv_iconst (v := (nI 0)) hx hb d_M_powers_0 (by decide) ?_
  refine lv_istore_n (lv' := [(2, .int (nI 0)), (0, .ref h), (1, .int a)]) hx hb d_M_powers_1 rfl hl (by decide) rfl (fun ls hl => ?_)
  exact la n 0 fq s.heap [] ls (by omega) (fun j hj => absurd hj (Nat.not_lt_zero j)) hP hD hS (lv_sub hl [1, 2, 0] rfl)
set_option maxHeartbeats 4000000 in
set_option maxRecDepth 100000 in
/-- RankDeskModel.longest -/
theorem c_M_longest (l : Launch) (D : va_G) (cA : ClassId) (h pa : Nat) (v2 v3 : Value) (fp : Nat → Int32) (P : Nat → Nat) (n : Nat) (hn0 : 1 ≤ n) (hn : n ≤ 7) (hP8 : ∀ k, P k < 8) (hfp : ∀ k, k < n → fp k = nI (P k)) : Met l y_M_longest wz_M_longest { frames := 0, cells := 0, slots := 0, locals := 0 } (va_Pc [.ref h] (wd_R D cA [(h, .inr (2, [.int (nI n), .ref pa, v2, v3])), (pa, .inl (cA, 8, .inl fp))])) (QcRead (nI (pf_mo n P (2 ^ n)))) 0 0 (fun _ => False) := by
  refine Met.ofW (cc := b_M_longest) (maxL := 7) (ret := (some .int)) (by decide) rfl ?_
  intro p e s m args below meth c s₁ B hml hv
  obtain ⟨rfl, hP, hK⟩ := hv
  have hx := B.exec
  have hb := B.bytes
  have hr := B.returns
  have hlocks := B.notSynchronized
  have hown : s.vm.findClass "RankDeskModel" = some m.cls := findClass_of_methodNamed B.named
  have ht : ∀ w ∈ lw_g, w.before ([.ref h] : List Value).toArray s = true := fun w hw => atoms_spec (ws := wz_M_longest) B.pre w (List.mem_cons_of_mem _ hw)
  obtain ⟨Q, hQ⟩ : ∃ Q, Q = MQ below (QcRead (nI (pf_mo n P (2 ^ n)))) ([.ref h] : List Value).toArray s 0 0 (fun _ => False) := ⟨_, rfl⟩
  rw [← hQ]
  have hl := lv_entry ([.ref h]) (n := 7) (Nat.le_of_ble_eq_true rfl)
  rw [lg_entry_eq]
  generalize (lg_sl ([.ref h]) ++ List.replicate (7 - (lg_sl ([.ref h])).length) Slot.unset).toArray = ls at hl ⊢
  have hl : lv_has ls 7 [(0, .ref h)] := hl
  show W p l e { frames := 0, cells := 0, slots := 0, locals := 0 } s m ([.ref h] : List Value).toArray below meth c s.heap [] 0 0 Q (F0 m 0 ls [])
  have hp2 := zn_p2 hn
  have lp : ∀ (t x : Nat) (ls : Array Slot), x + t = 2 ^ n → lv_has ls 7 [(0, .ref h), (1, .int (nI (pf_mo n P x))), (2, .int (nI x))] → W p l e { frames := 0, cells := 0, slots := 0, locals := 0 } s m ([.ref h] : List Value).toArray below meth c s.heap [] 0 0 Q (F0 m 4 ls []) := by
    intro t
    induction t with
    | zero =>
      intro x ls hx0 hl
      have hmo := pf_mo_b (n := n) hP8 x
      refine lv_iload_n hx hb d_M_longest_4 rfl (lv_at hl 2 rfl) ?_
      refine lv_iconst (v := (nI 1)) hx hb d_M_longest_5 (by decide) ?_
      refine lv_aload_n hx hb d_M_longest_6 rfl (lv_at hl 0 rfl) ?_
      refine gf_M_2 hx hb ht hown hK hP 0 rfl d_M_longest_7 ?_
      refine rw_ishl (r := 2 ^ n) hx hb d_M_longest_10 (by omega) (Nat.one_mul _) (by omega) ?_
      refine rw_cge (tgt := 106) hx hb d_M_longest_11 (by decide) (by omega) (by omega) (fun c1 => ?_) (fun c1 => ?_)
      · refine lv_iload_n hx hb d_M_longest_106 rfl (lv_at hl 1 rfl) ?_
        refine rw_top (y := (nI (pf_mo n P (2 ^ n)))) (by rw [show x = 2 ^ n by omega]) ?_
        rw [hQ]
        exact W.iret (v := (nI (pf_mo n P (2 ^ n)))) hx hb hr (fun t ht _ => ⟨rfl, ht⟩) (fun q h => by cases h) d_M_longest_107
      · exact absurd c1 (by omega)
    | succ t ih =>
      intro x ls hx0 hl
      have hmo := pf_mo_b (n := n) hP8 x
      refine lv_iload_n hx hb d_M_longest_4 rfl (lv_at hl 2 rfl) ?_
      refine lv_iconst (v := (nI 1)) hx hb d_M_longest_5 (by decide) ?_
      refine lv_aload_n hx hb d_M_longest_6 rfl (lv_at hl 0 rfl) ?_
      refine gf_M_2 hx hb ht hown hK hP 0 rfl d_M_longest_7 ?_
      refine rw_ishl (r := 2 ^ n) hx hb d_M_longest_10 (by omega) (Nat.one_mul _) (by omega) ?_
      refine rw_cge (tgt := 106) hx hb d_M_longest_11 (by decide) (by omega) (by omega) (fun c1 => ?_) (fun c1 => ?_)
      · exact absurd c1 (by omega)
      · have e6 : ∀ (_ : Unit) (ls : Array Slot), lv_has ls 7 [(0, .ref h), (1, .int (nI (pf_mo n P x))), (2, .int (nI x)), (4, .int (nI ((pf_mi P x n).2.1))), (5, .int (nI ((pf_mi P x n).2.2.toNat)))] → W p l e { frames := 0, cells := 0, slots := 0, locals := 0 } s m ([.ref h] : List Value).toArray below meth c s.heap [] 0 0 Q (F0 m 86 ls []) := by
          intro _ ls hl
          have hmb := (pf_mi_b (s := x) hP8 n).2
          have hb1 := bt_le (pf_mi P x n).2.2
          refine lv_iload hx hb d_M_longest_86 (lv_at hl 4 rfl) ?_
          refine rw_zeq (tgt := 100) hx hb d_M_longest_88 (by decide) (by omega) (fun c2 => ?_) (fun c2 => ?_)
          · refine lv_iinc (v := (nI (x + 1))) (lv' := [(2, .int (nI (x + 1))), (0, .ref h), (1, .int (nI (pf_mo n P x))), (4, .int (nI ((pf_mi P x n).2.1))), (5, .int (nI ((pf_mi P x n).2.2.toNat)))]) hx hb d_M_longest_100 hl (k := 2) rfl (nI_add x 1) (by decide) rfl (fun ls hl => ?_)
            refine lv_goto (tgt := 4) hx hb d_M_longest_103 (by decide) ?_
            refine ih (x + 1) ls (by omega) ?_
            rw [show pf_mo n P (x + 1) = pf_mo n P x from if_neg (fun q => absurd q.1 (by rw [bt_f c2]; decide))]
            exact (lv_sub hl [1, 2, 0] rfl)
          · refine lv_iload hx hb d_M_longest_91 (lv_at hl 3 rfl) ?_
            refine lv_iload_n hx hb d_M_longest_93 rfl (lv_at hl 1 rfl) ?_
            refine rw_cle (tgt := 100) hx hb d_M_longest_94 (by decide) (by omega) (by omega) (fun c3 => ?_) (fun c3 => ?_)
            · refine lv_iinc (v := (nI (x + 1))) (lv' := [(2, .int (nI (x + 1))), (0, .ref h), (1, .int (nI (pf_mo n P x))), (4, .int (nI ((pf_mi P x n).2.1))), (5, .int (nI ((pf_mi P x n).2.2.toNat)))]) hx hb d_M_longest_100 hl (k := 2) rfl (nI_add x 1) (by decide) rfl (fun ls hl => ?_)
              refine lv_goto (tgt := 4) hx hb d_M_longest_103 (by decide) ?_
              refine ih (x + 1) ls (by omega) ?_
              rw [show pf_mo n P (x + 1) = pf_mo n P x from if_neg (fun q => absurd q.2 (by omega))]
              exact (lv_sub hl [1, 2, 0] rfl)
            · refine lv_iload hx hb d_M_longest_97 (lv_at hl 3 rfl) ?_
              refine lv_istore_n (lv' := [(1, .int (nI ((pf_mi P x n).2.1))), (0, .ref h), (2, .int (nI x)), (4, .int (nI ((pf_mi P x n).2.1))), (5, .int (nI ((pf_mi P x n).2.2.toNat)))]) hx hb d_M_longest_99 rfl hl (by decide) rfl (fun ls hl => ?_)
              refine lv_iinc (v := (nI (x + 1))) (lv' := [(2, .int (nI (x + 1))), (1, .int (nI ((pf_mi P x n).2.1))), (0, .ref h), (4, .int (nI ((pf_mi P x n).2.1))), (5, .int (nI ((pf_mi P x n).2.2.toNat)))]) hx hb d_M_longest_100 hl (k := 2) rfl (nI_add x 1) (by decide) rfl (fun ls hl => ?_)
              refine lv_goto (tgt := 4) hx hb d_M_longest_103 (by decide) ?_
              refine ih (x + 1) ls (by omega) ?_
              rw [show pf_mo n P (x + 1) = (pf_mi P x n).2.1 from if_pos ⟨bt_t c2, c3⟩]
              exact (lv_sub hl [2, 1, 0] rfl)
        have lq : ∀ (u i : Nat) (ls : Array Slot), i + u = n → lv_has ls 7 [(0, .ref h), (1, .int (nI (pf_mo n P x))), (2, .int (nI x)), (3, .int (dI ((pf_mi P x i).1))), (4, .int (nI ((pf_mi P x i).2.1))), (5, .int (nI ((pf_mi P x i).2.2.toNat))), (6, .int (nI i))] → W p l e { frames := 0, cells := 0, slots := 0, locals := 0 } s m ([.ref h] : List Value).toArray below meth c s.heap [] 0 0 Q (F0 m 25 ls []) := by
          intro u
          induction u with
          | zero =>
            intro i ls hi hl
            refine lv_iload hx hb d_M_longest_25 (lv_at hl 6 rfl) ?_
            refine lv_aload_n hx hb d_M_longest_27 rfl (lv_at hl 0 rfl) ?_
            refine gf_M_2 hx hb ht hown hK hP 0 rfl d_M_longest_28 ?_
            refine rw_cge (tgt := 86) hx hb d_M_longest_31 (by decide) (by omega) (by omega) (fun c4 => ?_) (fun c4 => ?_)
            · rw [show i = n by omega] at hl
              exact e6 () ls (lv_sub hl [0, 1, 2, 4, 5] rfl)
            · exact absurd c4 (by omega)
          | succ u ihu =>
            intro i ls hi hl
            have hmb := pf_mi_b (s := x) hP8 i
            have hb1 := bt_le (pf_mi P x i).2.2
            have hpi := hP8 i
            refine lv_iload hx hb d_M_longest_25 (lv_at hl 6 rfl) ?_
            refine lv_aload_n hx hb d_M_longest_27 rfl (lv_at hl 0 rfl) ?_
            refine gf_M_2 hx hb ht hown hK hP 0 rfl d_M_longest_28 ?_
            refine rw_cge (tgt := 86) hx hb d_M_longest_31 (by decide) (by omega) (by omega) (fun c4 => ?_) (fun c4 => ?_)
            · exact absurd c4 (by omega)
            · refine lv_iload_n hx hb d_M_longest_34 rfl (lv_at hl 2 rfl) ?_
              refine lv_iload hx hb d_M_longest_35 (lv_at hl 6 rfl) ?_
              refine rw_ishr (r := x / 2 ^ i) hx hb d_M_longest_37 (by omega) (by omega) rfl ?_
              refine lv_iconst (v := (nI 1)) hx hb d_M_longest_38 (by decide) ?_
              refine rw_iand (r := x / 2 ^ i % 2) hx hb d_M_longest_39 (zn_b2 _) ?_
              refine rw_zeq (tgt := 80) hx hb d_M_longest_40 (by decide) (by omega) (fun c5 => ?_) (fun c5 => ?_)
              · refine lv_iinc (v := (nI (i + 1))) (lv' := [(6, .int (nI (i + 1))), (0, .ref h), (1, .int (nI (pf_mo n P x))), (2, .int (nI x)), (3, .int (dI ((pf_mi P x i).1))), (4, .int (nI ((pf_mi P x i).2.1))), (5, .int (nI ((pf_mi P x i).2.2.toNat)))]) hx hb d_M_longest_80 hl (k := 6) rfl (nI_add i 1) (by decide) rfl (fun ls hl => ?_)
                refine lv_goto (tgt := 25) hx hb d_M_longest_83 (by decide) ?_
                refine ihu (i + 1) ls (by omega) ?_
                rw [show (pf_mi P x (i + 1)) = (pf_mi P x i) from if_pos c5]
                exact (lv_sub hl [1, 2, 3, 4, 5, 6, 0] rfl)
              · have e0 : (pf_mi P x (i + 1)) = (P i + 1, (pf_mi P x i).2.1 + 1, (pf_mi P x i).2.2 && Nat.ble (pf_mi P x i).1 (P i)) := if_neg c5
                refine lv_iload hx hb d_M_longest_43 (lv_at hl 5 rfl) ?_
                refine rw_zeq (tgt := 63) hx hb d_M_longest_45 (by decide) (by omega) (fun c6 => ?_) (fun c6 => ?_)
                · refine lv_iconst (v := (nI 0)) hx hb d_M_longest_63 (by decide) ?_
                  refine lv_istore (lv' := [(5, .int (nI 0)), (0, .ref h), (1, .int (nI (pf_mo n P x))), (2, .int (nI x)), (3, .int (dI ((pf_mi P x i).1))), (4, .int (nI ((pf_mi P x i).2.1))), (6, .int (nI i))]) hx hb d_M_longest_64 hl (by decide) rfl (fun ls hl => ?_)
                  refine lv_aload_n hx hb d_M_longest_66 rfl (lv_at hl 1 rfl) ?_
                  refine gf_M_8 hx hb ht hown hK hP 0 rfl d_M_longest_67 ?_
                  refine lv_iload hx hb d_M_longest_70 (lv_at hl 6 rfl) ?_
                  refine rw_iald (v := (nI (P i))) hx hb hK hP 1 rfl (by omega) (by omega) (hfp _ (by omega)) d_M_longest_72 ?_
                  refine rw_top (y := (dI (P i + 1))) (dI_succ (P i)).symm ?_
                  refine lv_istore_n (lv' := [(3, .int (dI (P i + 1))), (5, .int (nI 0)), (0, .ref h), (1, .int (nI (pf_mo n P x))), (2, .int (nI x)), (4, .int (nI ((pf_mi P x i).2.1))), (6, .int (nI i))]) hx hb d_M_longest_73 rfl hl (by decide) rfl (fun ls hl => ?_)
                  refine lv_iload hx hb d_M_longest_74 (lv_at hl 5 rfl) ?_
                  refine lv_iconst (v := (nI 1)) hx hb d_M_longest_76 (by decide) ?_
                  refine rw_iadd (r := ((pf_mi P x i).2.1) + 1) hx hb d_M_longest_77 rfl ?_
                  refine lv_istore (lv' := [(4, .int (nI (((pf_mi P x i).2.1) + 1))), (3, .int (dI (P i + 1))), (5, .int (nI 0)), (0, .ref h), (1, .int (nI (pf_mo n P x))), (2, .int (nI x)), (6, .int (nI i))]) hx hb d_M_longest_78 hl (by decide) rfl (fun ls hl => ?_)
                  refine lv_iinc (v := (nI (i + 1))) (lv' := [(6, .int (nI (i + 1))), (4, .int (nI (((pf_mi P x i).2.1) + 1))), (3, .int (dI (P i + 1))), (5, .int (nI 0)), (0, .ref h), (1, .int (nI (pf_mo n P x))), (2, .int (nI x))]) hx hb d_M_longest_80 hl (k := 6) rfl (nI_add i 1) (by decide) rfl (fun ls hl => ?_)
                  refine lv_goto (tgt := 25) hx hb d_M_longest_83 (by decide) ?_
                  have e1 : ((pf_mi P x i).2.2 && Nat.ble (pf_mi P x i).1 (P i)).toNat = 0 := bt_0 c6
                  refine ihu (i + 1) ls (by omega) ?_
                  rw [e0]
                  dsimp only
                  rw [e1]
                  exact (lv_sub hl [4, 5, 6, 2, 1, 3, 0] rfl)
                · refine lv_aload_n hx hb d_M_longest_48 rfl (lv_at hl 0 rfl) ?_
                  refine gf_M_8 hx hb ht hown hK hP 0 rfl d_M_longest_49 ?_
                  refine lv_iload hx hb d_M_longest_52 (lv_at hl 6 rfl) ?_
                  refine rw_iald (v := (nI (P i))) hx hb hK hP 1 rfl (by omega) (by omega) (hfp _ (by omega)) d_M_longest_54 ?_
                  refine lv_iload_n hx hb d_M_longest_55 rfl (lv_at hl 3 rfl) ?_
                  refine lv_icmp_le (tgt := 63) hx hb d_M_longest_56 (by decide) (fun c7 => ?_) (fun c7 => ?_)
                  · refine lv_iconst (v := (nI 0)) hx hb d_M_longest_63 (by decide) ?_
                    refine lv_istore (lv' := [(5, .int (nI 0)), (0, .ref h), (1, .int (nI (pf_mo n P x))), (2, .int (nI x)), (3, .int (dI ((pf_mi P x i).1))), (4, .int (nI ((pf_mi P x i).2.1))), (6, .int (nI i))]) hx hb d_M_longest_64 hl (by decide) rfl (fun ls hl => ?_)
                    refine lv_aload_n hx hb d_M_longest_66 rfl (lv_at hl 1 rfl) ?_
                    refine gf_M_8 hx hb ht hown hK hP 0 rfl d_M_longest_67 ?_
                    refine lv_iload hx hb d_M_longest_70 (lv_at hl 6 rfl) ?_
                    refine rw_iald (v := (nI (P i))) hx hb hK hP 1 rfl (by omega) (by omega) (hfp _ (by omega)) d_M_longest_72 ?_
                    refine rw_top (y := (dI (P i + 1))) (dI_succ (P i)).symm ?_
                    refine lv_istore_n (lv' := [(3, .int (dI (P i + 1))), (5, .int (nI 0)), (0, .ref h), (1, .int (nI (pf_mo n P x))), (2, .int (nI x)), (4, .int (nI ((pf_mi P x i).2.1))), (6, .int (nI i))]) hx hb d_M_longest_73 rfl hl (by decide) rfl (fun ls hl => ?_)
                    refine lv_iload hx hb d_M_longest_74 (lv_at hl 5 rfl) ?_
                    refine lv_iconst (v := (nI 1)) hx hb d_M_longest_76 (by decide) ?_
                    refine rw_iadd (r := ((pf_mi P x i).2.1) + 1) hx hb d_M_longest_77 rfl ?_
                    refine lv_istore (lv' := [(4, .int (nI (((pf_mi P x i).2.1) + 1))), (3, .int (dI (P i + 1))), (5, .int (nI 0)), (0, .ref h), (1, .int (nI (pf_mo n P x))), (2, .int (nI x)), (6, .int (nI i))]) hx hb d_M_longest_78 hl (by decide) rfl (fun ls hl => ?_)
                    refine lv_iinc (v := (nI (i + 1))) (lv' := [(6, .int (nI (i + 1))), (4, .int (nI (((pf_mi P x i).2.1) + 1))), (3, .int (dI (P i + 1))), (5, .int (nI 0)), (0, .ref h), (1, .int (nI (pf_mo n P x))), (2, .int (nI x))]) hx hb d_M_longest_80 hl (k := 6) rfl (nI_add i 1) (by decide) rfl (fun ls hl => ?_)
                    refine lv_goto (tgt := 25) hx hb d_M_longest_83 (by decide) ?_
                    have e1 : ((pf_mi P x i).2.2 && Nat.ble (pf_mi P x i).1 (P i)).toNat = 0 := bt_n (nl_gt ((dI_le (by omega) (by omega)).mp c7))
                    refine ihu (i + 1) ls (by omega) ?_
                    rw [e0]
                    dsimp only
                    rw [e1]
                    exact (lv_sub hl [4, 5, 6, 2, 1, 3, 0] rfl)
                  · refine lv_iconst (v := (nI 1)) hx hb d_M_longest_59 (by decide) ?_
                    refine lv_goto (tgt := 64) hx hb d_M_longest_60 (by decide) ?_
                    refine lv_istore (lv' := [(5, .int (nI 1)), (0, .ref h), (1, .int (nI (pf_mo n P x))), (2, .int (nI x)), (3, .int (dI ((pf_mi P x i).1))), (4, .int (nI ((pf_mi P x i).2.1))), (6, .int (nI i))]) hx hb d_M_longest_64 hl (by decide) rfl (fun ls hl => ?_)
                    refine lv_aload_n hx hb d_M_longest_66 rfl (lv_at hl 1 rfl) ?_
                    refine gf_M_8 hx hb ht hown hK hP 0 rfl d_M_longest_67 ?_
                    refine lv_iload hx hb d_M_longest_70 (lv_at hl 6 rfl) ?_
                    refine rw_iald (v := (nI (P i))) hx hb hK hP 1 rfl (by omega) (by omega) (hfp _ (by omega)) d_M_longest_72 ?_
                    refine rw_top (y := (dI (P i + 1))) (dI_succ (P i)).symm ?_
                    refine lv_istore_n (lv' := [(3, .int (dI (P i + 1))), (5, .int (nI 1)), (0, .ref h), (1, .int (nI (pf_mo n P x))), (2, .int (nI x)), (4, .int (nI ((pf_mi P x i).2.1))), (6, .int (nI i))]) hx hb d_M_longest_73 rfl hl (by decide) rfl (fun ls hl => ?_)
                    refine lv_iload hx hb d_M_longest_74 (lv_at hl 5 rfl) ?_
                    refine lv_iconst (v := (nI 1)) hx hb d_M_longest_76 (by decide) ?_
                    refine rw_iadd (r := ((pf_mi P x i).2.1) + 1) hx hb d_M_longest_77 rfl ?_
                    refine lv_istore (lv' := [(4, .int (nI (((pf_mi P x i).2.1) + 1))), (3, .int (dI (P i + 1))), (5, .int (nI 1)), (0, .ref h), (1, .int (nI (pf_mo n P x))), (2, .int (nI x)), (6, .int (nI i))]) hx hb d_M_longest_78 hl (by decide) rfl (fun ls hl => ?_)
                    refine lv_iinc (v := (nI (i + 1))) (lv' := [(6, .int (nI (i + 1))), (4, .int (nI (((pf_mi P x i).2.1) + 1))), (3, .int (dI (P i + 1))), (5, .int (nI 1)), (0, .ref h), (1, .int (nI (pf_mo n P x))), (2, .int (nI x))]) hx hb d_M_longest_80 hl (k := 6) rfl (nI_add i 1) (by decide) rfl (fun ls hl => ?_)
                    refine lv_goto (tgt := 25) hx hb d_M_longest_83 (by decide) ?_
                    have e1 : ((pf_mi P x i).2.2 && Nat.ble (pf_mi P x i).1 (P i)).toNat = 1 := bt_1 c6 (nl_le (Nat.not_lt.mp (fun q => c7 ((dI_le (by omega) (by omega)).mpr q))))
                    refine ihu (i + 1) ls (by omega) ?_
                    rw [e0]
                    dsimp only
                    rw [e1]
                    exact (lv_sub hl [4, 5, 6, 2, 1, 3, 0] rfl)
        refine lv_iconst (v := (dI 0)) hx hb d_M_longest_14 (by decide) ?_
        refine lv_istore_n (lv' := [(3, .int (dI 0)), (0, .ref h), (1, .int (nI (pf_mo n P x))), (2, .int (nI x))]) hx hb d_M_longest_15 rfl hl (by decide) rfl (fun ls hl => ?_)
        refine lv_iconst (v := (nI 0)) hx hb d_M_longest_16 (by decide) ?_
        refine lv_istore (lv' := [(4, .int (nI 0)), (3, .int (dI 0)), (0, .ref h), (1, .int (nI (pf_mo n P x))), (2, .int (nI x))]) hx hb d_M_longest_17 hl (by decide) rfl (fun ls hl => ?_)
        refine lv_iconst (v := (nI 1)) hx hb d_M_longest_19 (by decide) ?_
        refine lv_istore (lv' := [(5, .int (nI 1)), (4, .int (nI 0)), (3, .int (dI 0)), (0, .ref h), (1, .int (nI (pf_mo n P x))), (2, .int (nI x))]) hx hb d_M_longest_20 hl (by decide) rfl (fun ls hl => ?_)
        refine lv_iconst (v := (nI 0)) hx hb d_M_longest_22 (by decide) ?_
        refine lv_istore (lv' := [(6, .int (nI 0)), (5, .int (nI 1)), (4, .int (nI 0)), (3, .int (dI 0)), (0, .ref h), (1, .int (nI (pf_mo n P x))), (2, .int (nI x))]) hx hb d_M_longest_23 hl (by decide) rfl (fun ls hl => ?_)
        exact lq n 0 ls (by omega) (lv_sub hl [4, 5, 6, 3, 2, 1, 0] rfl)
  refine lv_iconst (v := (nI 0)) hx hb d_M_longest_0 (by decide) ?_
  refine lv_istore_n (lv' := [(1, .int (nI 0)), (0, .ref h)]) hx hb d_M_longest_1 rfl hl (by decide) rfl (fun ls hl => ?_)
  refine lv_iconst (v := (nI 0)) hx hb d_M_longest_2 (by decide) ?_
  refine lv_istore_n (lv' := [(2, .int (nI 0)), (1, .int (nI 0)), (0, .ref h)]) hx hb d_M_longest_3 rfl hl (by decide) rfl (fun ls hl => ?_)
  exact lp (2 ^ n) 0 ls (by omega) (lv_sub hl [2, 1, 0] rfl)
end
section
/-! THE PLAIN LAWS: exchange of two places; the longest row; powers -/
theorem pf_df_ok {f : Nat → Bool} {n : Nat} : ∀ (k a : Nat), k ≤ n → pf_df f n k a = true → ∀ w, w / 2 ^ (3 * k) = a → (∀ j, j < n → pf_dg w j < n) → (∀ i j, i < n → j < n → pf_dg w i = pf_dg w j → i = j) → f w = true
  | 0, a, _, h, w, hw, _, _ => by
    rw [show 2 ^ (3 * 0) = 1 from rfl, Nat.div_one] at hw
    rw [hw]; exact h
  | k + 1, a, hk, h, w, hw, hd, hi => by
    rw [pf_df] at h
    have h1 := pf_upto_ok n h (pf_dg w k) (hd k (by omega))
    have e : w / 2 ^ (3 * k) = a * 8 + pf_dg w k := by
      have e1 : w / 2 ^ (3 * k) / 8 = a := by
        rw [Nat.div_div_eq_div_mul, show 2 ^ (3 * k) * 8 = 2 ^ (3 * (k + 1)) by rw [show 3 * (k + 1) = 3 * k + 3 by omega, Nat.pow_add]]
        exact hw
      unfold pf_dg
      omega
    have e2 : pf_upto (fun j => !(Nat.beq (pf_dg a j) (pf_dg w k))) (n - 1 - k) = true := by
      refine pf_upto_t _ (fun j hj => ?_)
      have e3 : pf_dg a j = pf_dg w (k + 1 + j) := by
        unfold pf_dg
        rw [← hw, Nat.div_div_eq_div_mul, ← Nat.pow_add, show 3 * (k + 1) + 3 * j = 3 * (k + 1 + j) by omega]
      rw [nb_ne]
      · rfl
      · rw [e3]
        intro q
        have := hi _ _ (by omega) (by omega) q
        omega
    rw [e2] at h1
    exact pf_df_ok k _ (by omega) h1 w e hd hi
theorem pu_back {n w : Nat} (hn0 : 1 ≤ n) (hn : n ≤ 7) (hw : w < 2 ^ (3 * n)) (hd : ∀ j, j < n → pf_dg w j < n) (hi : ∀ i j, i < n → j < n → pf_dg w i = pf_dg w j → i = j) : pf_rk n w < pf_fac n ∧ pf_un n (pf_rk n w) = w := by
  have key : pf_df (pf_k3 n) n n 0 = true := by
    rcases (show n = 1 ∨ n = 2 ∨ n = 3 ∨ n = 4 ∨ n = 5 ∨ n = 6 ∨ n = 7 by omega) with rfl | rfl | rfl | rfl | rfl | rfl | rfl
    · exact pg_d1
    · exact pg_d2
    · exact pg_d3
    · exact pg_d4
    · exact pg_d5
    · exact pg_d6
    · exact pg_d7
  have h := pf_df_ok n 0 (Nat.le_refl n) key w (Nat.div_eq_of_lt hw) hd hi
  exact ⟨Nat.le_of_ble_eq_true (pu_and h).1, Nat.eq_of_beq_eq_true (pu_and h).2⟩
theorem pf_dg_xor (a b k : Nat) : pf_dg (a ^^^ b) k = pf_dg a k ^^^ pf_dg b k := by
  rw [← zn_dg, ← zn_dg, ← zn_dg, ← Nat.shiftRight_eq_div_pow, ← Nat.shiftRight_eq_div_pow, ← Nat.shiftRight_eq_div_pow, Nat.shiftRight_xor_distrib, Nat.and_xor_distrib_right]
theorem pf_dg_one' : ∀ o, o < 8 → ∀ x, x < 7 → ∀ k, k < 7 → pf_dg (o * 2 ^ (3 * x)) k = if k = x then o else 0 := by decide +kernel
theorem pf_dg_one {o x k : Nat} (ho : o < 8) (hx : x < 7) (hk : k < 7) : pf_dg (o * 2 ^ (3 * x)) k = if k = x then o else 0 := pf_dg_one' o ho x hx k hk
theorem pf_xc_dg {w x y k : Nat} (hx : x < 7) (hy : y < 7) (hk : k < 7) (hne : x ≠ y) : pf_dg (pf_xc w x y) k = pf_sw (pf_dg w) x y k := by
  rw [pf_xc, pf_dg_xor, pf_dg_xor, pf_dg_one (zn_x8 w x y) hx hk, pf_dg_one (zn_x8 w x y) hy hk]
  unfold pf_sw va_up
  by_cases q1 : k = y
  · rw [if_pos q1, if_pos q1, if_neg (by omega), q1, Nat.xor_zero, Nat.xor_comm (pf_dg w x), ← Nat.xor_assoc, Nat.xor_self, Nat.zero_xor]
  · rw [if_neg q1, if_neg q1, Nat.xor_zero]
    by_cases q2 : k = x
    · rw [if_pos q2, if_pos q2, q2, ← Nat.xor_assoc, Nat.xor_self, Nat.zero_xor]
    · rw [if_neg q2, if_neg q2, Nat.xor_zero]
/-- the exchange of two places: the rank that is kept is that of the exchanged order -/
theorem pu_swap {n r x y : Nat} (hn0 : 1 ≤ n) (hn : n ≤ 7) (hr : r < pf_fac n) (hx : x < n) (hy : y < n) : pf_sr n r x y < pf_fac n ∧ ∀ k, k < n → pf_sw (pf_dg (pf_un n r)) x y k = pf_dg (pf_un n (pf_sr n r x y)) k := by
  by_cases e : x = y
  · subst e
    rw [pf_sr, if_pos rfl]
    refine ⟨hr, fun k hk => ?_⟩
    unfold pf_sw va_up
    by_cases q : k = x
    · rw [if_pos q, q]
    · rw [if_neg q, if_neg q]
  · rw [pf_sr, if_neg e]
    have hdg : ∀ k, k < n → pf_dg (pf_xc (pf_un n r) x y) k = pf_sw (pf_dg (pf_un n r)) x y k := fun k hk => pf_xc_dg (by omega) (by omega) (by omega) e
    have hlt : ∀ z, z < n → (pf_dg (pf_un n r) x ^^^ pf_dg (pf_un n r) y) * 2 ^ (3 * z) < 2 ^ (3 * n) := by
      intro z hz
      have h1 := Nat.mul_lt_mul_of_pos_right (zn_x8 (pf_un n r) x y) (Nat.two_pow_pos (3 * z))
      have h2 : 8 * 2 ^ (3 * z) ≤ 2 ^ (3 * n) := by
        rw [show 8 * 2 ^ (3 * z) = 2 ^ (3 * z + 3) by rw [Nat.pow_add]; omega]
        exact Nat.pow_le_pow_right (by decide) (by omega)
      exact Nat.lt_of_lt_of_le h1 h2
    have hb := pu_back (w := pf_xc (pf_un n r) x y) hn0 hn (Nat.xor_lt_two_pow (Nat.xor_lt_two_pow (pu_lt3 hn0 hn hr) (hlt x hx)) (hlt y hy)) (by
      intro j hj
      rw [hdg j hj]
      unfold pf_sw va_up
      split
      · exact pu_dgn hn0 hn hr hx
      · split
        · exact pu_dgn hn0 hn hr hy
        · exact pu_dgn hn0 hn hr hj) (by
      intro i j hi hj
      rw [hdg i hi, hdg j hj]
      unfold pf_sw va_up
      intro q
      by_cases i1 : i = y
      · by_cases j1 : j = y
        · omega
        · rw [if_pos i1, if_neg j1] at q
          by_cases j2 : j = x
          · rw [if_pos j2] at q; have := pu_inj hn0 hn hr hx hy q; omega
          · rw [if_neg j2] at q; have := pu_inj hn0 hn hr hx hj q; omega
      · rw [if_neg i1] at q
        by_cases i2 : i = x
        · rw [if_pos i2] at q
          by_cases j1 : j = y
          · rw [if_pos j1] at q; have := pu_inj hn0 hn hr hy hx q; omega
          · rw [if_neg j1] at q
            by_cases j2 : j = x
            · omega
            · rw [if_neg j2] at q; have := pu_inj hn0 hn hr hy hj q; omega
        · rw [if_neg i2] at q
          by_cases j1 : j = y
          · rw [if_pos j1] at q; have := pu_inj hn0 hn hr hi hx q; omega
          · rw [if_neg j1] at q
            by_cases j2 : j = x
            · rw [if_pos j2] at q; have := pu_inj hn0 hn hr hi hy q; omega
            · rw [if_neg j2] at q; exact pu_inj hn0 hn hr hi hj q)
    refine ⟨hb.1, fun k hk => ?_⟩
    rw [hb.2, hdg k hk]
/-! the longest row: over all choices, and by choosing at each place -/
theorem pf_mi_up {P : Nat → Nat} {n s : Nat} : ∀ m, m ≤ n → (pf_mi P s n).2.2 = true → (pf_mi P s (n - m)).2.2 = true ∧ (pf_mi P s n).2.1 ≤ pf_tr P n m (pf_mi P s (n - m)).1 (pf_mi P s (n - m)).2.1
  | 0, _, h => ⟨h, Nat.le_refl _⟩
  | m + 1, hm, h => by
    obtain ⟨h1, h2⟩ := pf_mi_up (P := P) (n := n) (s := s) m (by omega) h
    rw [show n - m = n - (m + 1) + 1 by omega] at h1 h2
    rw [pf_tr]
    by_cases q : s / 2 ^ (n - (m + 1)) % 2 = 0
    · rw [pf_mi, if_pos q] at h1 h2
      exact ⟨h1, Nat.le_trans h2 (Nat.le_max_left _ _)⟩
    · rw [pf_mi, if_neg q] at h1 h2
      dsimp only at h1 h2
      obtain ⟨h3, h4⟩ := pu_and h1
      rw [if_pos (Nat.le_of_ble_eq_true h4)]
      exact ⟨h3, Nat.le_trans h2 (Nat.le_max_right _ _)⟩
theorem pf_mi_c {P : Nat → Nat} {s v : Nat} : ∀ i, (∀ j, j < i → s / 2 ^ j % 2 = v / 2 ^ j % 2) → pf_mi P s i = pf_mi P v i
  | 0, _ => rfl
  | i + 1, h => by rw [pf_mi, pf_mi, pf_mi_c i (fun j hj => h j (by omega)), h i (by omega)]
theorem pf_bit_lo {s i j : Nat} (hj : j < i) : (s + 2 ^ i) / 2 ^ j % 2 = s / 2 ^ j % 2 := by
  rw [show 2 ^ i = 2 ^ j * 2 ^ (i - j) by rw [← Nat.pow_add, show j + (i - j) = i by omega], Nat.add_mul_div_left _ _ (Nat.two_pow_pos j), show i - j = (i - j - 1) + 1 by omega, Nat.pow_succ]
  omega
theorem pf_bit_at {s i : Nat} (hs : s < 2 ^ i) : (s + 2 ^ i) / 2 ^ i % 2 = 1 := by
  rw [Nat.add_div_right _ (Nat.two_pow_pos i), Nat.div_eq_of_lt hs]
theorem pf_tr_ex {P : Nat → Nat} {n : Nat} : ∀ m, m ≤ n → ∀ s, s < 2 ^ (n - m) → (pf_mi P s (n - m)).2.2 = true → ∃ v, v < 2 ^ n ∧ (pf_mi P v n).2.2 = true ∧ (pf_mi P v n).2.1 = pf_tr P n m (pf_mi P s (n - m)).1 (pf_mi P s (n - m)).2.1
  | 0, _, s, hs, hu => ⟨s, hs, hu, rfl⟩
  | m + 1, hm, s, hs, hu => by
    have e : n - m = n - (m + 1) + 1 := by omega
    have e2 : 2 ^ (n - m) = 2 ^ (n - (m + 1)) + 2 ^ (n - (m + 1)) := by rw [e, Nat.pow_succ]; omega
    have skip : ∃ v, v < 2 ^ n ∧ (pf_mi P v n).2.2 = true ∧ (pf_mi P v n).2.1 = pf_tr P n m (pf_mi P s (n - (m + 1))).1 (pf_mi P s (n - (m + 1))).2.1 := by
      have q : pf_mi P s (n - m) = pf_mi P s (n - (m + 1)) := by
        rw [e, pf_mi, if_pos (by rw [Nat.div_eq_of_lt hs])]
      have h := pf_tr_ex (P := P) (n := n) m (by omega) s (by omega) (by rw [q]; exact hu)
      rw [q] at h
      exact h
    rw [pf_tr]
    by_cases hl : (pf_mi P s (n - (m + 1))).1 ≤ P (n - (m + 1))
    · rw [if_pos hl]
      have take : ∃ v, v < 2 ^ n ∧ (pf_mi P v n).2.2 = true ∧ (pf_mi P v n).2.1 = pf_tr P n m (P (n - (m + 1)) + 1) ((pf_mi P s (n - (m + 1))).2.1 + 1) := by
        have q : pf_mi P (s + 2 ^ (n - (m + 1))) (n - m) = (P (n - (m + 1)) + 1, (pf_mi P s (n - (m + 1))).2.1 + 1, (pf_mi P s (n - (m + 1))).2.2 && Nat.ble (pf_mi P s (n - (m + 1))).1 (P (n - (m + 1)))) := by
          rw [e, pf_mi, if_neg (by rw [pf_bit_at hs]; decide), pf_mi_c (v := s) _ (fun j hj => pf_bit_lo hj)]
        have h := pf_tr_ex (P := P) (n := n) m (by omega) (s + 2 ^ (n - (m + 1))) (by omega) (by rw [q]; dsimp only; rw [hu, nl_le hl]; rfl)
        rw [q] at h
        exact h
      rcases Nat.le_total (pf_tr P n m (pf_mi P s (n - (m + 1))).1 (pf_mi P s (n - (m + 1))).2.1) (pf_tr P n m (P (n - (m + 1)) + 1) ((pf_mi P s (n - (m + 1))).2.1 + 1)) with q | q
      · rw [show Nat.max _ _ = _ from Nat.max_eq_right q]; exact take
      · rw [show Nat.max _ _ = _ from Nat.max_eq_left q]; exact skip
    · rw [if_neg hl, show Nat.max _ 0 = _ from Nat.max_eq_left (Nat.zero_le _)]; exact skip
theorem pf_mo_ge {n : Nat} {P : Nat → Nat} : ∀ s v, v < s → (pf_mi P v n).2.2 = true → (pf_mi P v n).2.1 ≤ pf_mo n P s
  | 0, v, h, _ => absurd h (Nat.not_lt_zero v)
  | s + 1, v, h, hu => by
    rw [pf_mo]
    by_cases q : v = s
    · rw [q] at hu
      rw [q]
      split
      · exact Nat.le_refl _
      · rename_i z
        exact Nat.not_lt.mp (fun y => z ⟨hu, y⟩)
    · have h1 := pf_mo_ge (n := n) (P := P) s v (by omega) hu
      split
      · rename_i z; omega
      · exact h1
theorem pf_mo_le {n T : Nat} {P : Nat → Nat} (hT : ∀ v, (pf_mi P v n).2.2 = true → (pf_mi P v n).2.1 ≤ T) : ∀ s, pf_mo n P s ≤ T
  | 0 => Nat.zero_le _
  | s + 1 => by
    rw [pf_mo]
    split
    · rename_i z; exact hT s z.1
    · exact pf_mo_le hT s
theorem pf_mo_tr {n : Nat} {P : Nat → Nat} : pf_mo n P (2 ^ n) = pf_tr P n n 0 0 := by
  apply Nat.le_antisymm
  · refine pf_mo_le (fun v hv => ?_) _
    have h := (pf_mi_up (P := P) (n := n) (s := v) n (Nat.le_refl n) hv).2
    rw [Nat.sub_self] at h
    exact h
  · have h := pf_tr_ex (P := P) (n := n) n (Nat.le_refl n) 0 (Nat.two_pow_pos _) (by rw [Nat.sub_self]; rfl)
    rw [Nat.sub_self] at h
    obtain ⟨v, h1, h2, h3⟩ := h
    have h4 := pf_mo_ge (n := n) (P := P) (2 ^ n) v h1 h2
    rw [h3] at h4
    exact h4
/-! powers -/
theorem pf_pk_dg {q : Nat → Nat} : ∀ (j a k : Nat), (∀ i, i < j → q i < 8) → pf_dg (pf_pk q j a) k = if k < j then q k else pf_dg a (k - j)
  | 0, _, _, _ => by rw [if_neg (by omega)]; rfl
  | j + 1, a, k, h => by
    rw [pf_pk, pf_pk_dg j _ k (fun i hi => h i (by omega))]
    have hj := h j (by omega)
    by_cases q1 : k < j
    · rw [if_pos q1, if_pos (by omega)]
    · rw [if_neg q1]
      by_cases q2 : k = j
      · rw [if_pos (by omega), q2, Nat.sub_self, pf_dg, show 2 ^ (3 * 0) = 1 from rfl]; omega
      · rw [if_neg (by omega), show k - j = (k - (j + 1)) + 1 by omega, pf_dg, pf_dg, show 3 * (k - (j + 1) + 1) = 3 + 3 * (k - (j + 1)) by omega, Nat.pow_add, ← Nat.div_div_eq_div_mul, show (8 * a + q j) / 2 ^ 3 = a by omega]
theorem pf_pk_c {q q2 : Nat → Nat} : ∀ (j a : Nat), (∀ i, i < j → q i = q2 i) → pf_pk q j a = pf_pk q2 j a
  | 0, _, _ => rfl
  | j + 1, a, h => by rw [pf_pk, pf_pk, h j (by omega), pf_pk_c j _ (fun i hi => h i (by omega))]
theorem pf_it_add {P : Nat → Nat} : ∀ (b a k : Nat), pf_it P b (pf_it P a k) = pf_it P (b + a) k
  | 0, a, k => by rw [Nat.zero_add]; rfl
  | b + 1, a, k => by
    rw [show b + 1 + a = (b + a) + 1 by omega]
    show P (pf_it P b (pf_it P a k)) = P (pf_it P (b + a) k)
    rw [pf_it_add b a k]
theorem pf_pw_ok {n : Nat} {P : Nat → Nat} (hn : n ≤ 7) (hP : ∀ k, k < n → P k < n) : ∀ (f T V m a b : Nat), m < 2 ^ f → T = pf_pk (pf_it P a) n 0 → (∀ k, k < n → pf_dg V k = pf_it P b k) → pf_pw n f T V m = pf_pk (pf_it P (a + b * m)) n 0
  | 0, T, V, m, a, b, hm, hT, _ => by
    rw [Nat.pow_zero] at hm
    rw [show m = 0 by omega, Nat.mul_zero, Nat.add_zero, ← hT]; rfl
  | f + 1, T, V, m, a, b, hm, hT, hV => by
    have hlt : ∀ c k, k < n → pf_it P c k < n := fun c k hk => pf_it_lt hP c k hk
    have hTd : ∀ k, k < n → pf_dg T k = pf_it P a k := fun k hk => by
      rw [hT, pf_pk_dg n 0 k (fun i hi => by have := hlt a i hi; omega), if_pos hk]
    rw [pf_pw]
    by_cases hz : m = 0
    · rw [if_pos hz, hz, Nat.mul_zero, Nat.add_zero, ← hT]
    · rw [if_neg hz]
      have hVV : ∀ k, k < n → pf_dg (pf_th n V V) k = pf_it P (b + b) k := fun k hk => by
        rw [pf_th, pf_pk_dg n 0 k (fun i hi => pf_dg_lt _ _), if_pos hk, hV k hk, hV _ (hlt b k hk), pf_it_add]
      rw [Nat.pow_succ] at hm
      by_cases ho : m % 2 = 1
      · have hTV : pf_th n T V = pf_pk (pf_it P (a + b)) n 0 := pf_pk_c n 0 (fun k hk => by
          show pf_dg V (pf_dg T k) = _
          rw [hTd k hk, hV _ (hlt a k hk), pf_it_add, Nat.add_comm])
        rw [if_pos ho, pf_pw_ok hn hP f (pf_th n T V) (pf_th n V V) (m / 2) (a + b) (b + b) (by omega) hTV hVV]
        have e : a + b + (b + b) * (m / 2) = a + b * m := by
          have e1 : m = 2 * (m / 2) + 1 := by omega
          have e2 : b * m = b * (2 * (m / 2)) + b := by rw [show b * m = b * (2 * (m / 2) + 1) by rw [← e1], Nat.mul_add, Nat.mul_one]
          have e3 : (b + b) * (m / 2) = b * (2 * (m / 2)) := by rw [← Nat.mul_assoc, Nat.mul_comm b 2, Nat.two_mul]
          omega
        rw [e]
      · rw [if_neg ho, pf_pw_ok hn hP f T _ (m / 2) a (b + b) (by omega) hT hVV]
        have e : a + (b + b) * (m / 2) = a + b * m := by
          have e1 : m = 2 * (m / 2) := by omega
          have e2 : b * m = b * (2 * (m / 2)) := by rw [← e1]
          have e3 : (b + b) * (m / 2) = b * (2 * (m / 2)) := by rw [← Nat.mul_assoc, Nat.mul_comm b 2, Nat.two_mul]
          omega
        rw [e]
theorem pu_pow {n r m : Nat} (hn0 : 1 ≤ n) (hn : n ≤ 7) (hr : r < pf_fac n) (hm : m < 2 ^ 8) : pf_pw n 8 (pf_pk (fun k => k) n 0) (pf_un n r) m = pf_pk (pf_it (pf_dg (pf_un n r)) m) n 0 := by
  have h := pf_pw_ok (P := pf_dg (pf_un n r)) hn (fun k hk => pu_dgn hn0 hn hr hk) 8 (pf_pk (fun k => k) n 0) (pf_un n r) m 0 1 hm (pf_pk_c n 0 (fun i _ => rfl)) (fun k _ => rfl)
  rw [h, Nat.zero_add, Nat.one_mul]
theorem pu_long {n r : Nat} (hn0 : 1 ≤ n) (hn : n ≤ 7) (hr : r < pf_fac n) : pf_mo n (pf_dg (pf_un n r)) (2 ^ n) = (pf_lt (pf_un n r) n).2 := by
  rw [pf_mo_tr, pu_lo hn0 hn hr]
end
section
/-! THE CLAIM OUT OF ONE WALK OF THE LAW'S BODY. Your part is whole_start (and what it stands on); all else here is the same for every law, but numbers. -/
def R_law : String := "RankDeskLaw"
def lw_P (b : Addr) (xs : List Int32) (args : Array Value) (s : State) : Prop := args = #[.ref b] ∧ s.IntsAt b xs ∧ xs.length ≤ 1536 ∧ (Jvm.Cond.and given_1 narrow_1).before args s = true
def lw_Q (_ : Array Value) (s : State) (o : Outcome) (t : State) : Prop := o = .returned (some (.int 1)) ∧ Framed s o t [] 858104 6527936
def lw_Z (below : List Frame) (a : Array Value) (s : State) : State → Prop := fun t => ∃ o, t.status = .running ∧ Ended t below o ∧ lw_Q a s o t
/-- the law's own end, with 1 on the stack, nothing written that was there before, its room as the claim has it -/
theorem lw_ret {p : Program} {l : Launch} {e : Env} {s : State} {m : MethodId} {below : List Frame} {meth : Method} {c : Code} {b : Nat} (hx : p.tables.exec = Jvm.exec) (hb : c.code = code) (hr : meth.sig.returnType = ret) (hlocks : meth.locks = false) {pc : Nat} {H : Heap} {ls : Array Slot} (hdg : decode code pc = .ok (.ireturn, 1)) : W p l e room_1 s m #[Value.ref b] below meth c H [] 858104 6527936 (lw_Z below #[Value.ref b] s) (F0 m pc ls [.int 1]) := by
  intro T hT X
  obtain ⟨fs, hret, hrun, hended, hW, hframe⟩ := X.leave (v := some (.int 1)) (hlocks := hlocks) (fun h => by rw [hr] at h; cases h)
  have hmeth' : T.vm.method? m = some meth := X.method'
  refine ⟨T.setFrames fs, ?_, .returned (some (.int 1)), hrun, hended, rfl, ⟨_, rfl⟩, hW, hframe⟩
  jvm_step X.here [X.here.top, hx, hb, hdg, hmeth', hr, ret, narrow_b1]
  (try refine ⟨rfl, ?_⟩); (try refine ⟨rfl, ?_⟩)
  first | (intro acts; rw [hret _ acts rfl rfl rfl]) | rw [hret _ _ rfl rfl rfl]
  exact Steps.refl _
/-- what holds at the law's entry: the machine, the code, the tables' words (any of lw_tbl by 'hts w (by decide +kernel)'), the script of L ints xs at the cell b, what the Statement gives of the start (any of its parts by flat_of_before) -/
def lw_At (p : Program) (s : State) (m : MethodId) (meth : Method) (c : Code) (b L : Nat) (xs : Nat → Int32) : Prop :=
  p.tables.exec = Jvm.exec ∧ c.code = code ∧ meth.sig.returnType = ret ∧ c.maxLocals = 4 ∧ s.vm.findClass R_law = some m.cls ∧ (∀ w ∈ lw_tbl, w.before #[Value.ref b] s = true) ∧ va_X b L xs s s.heap ∧ b < s.heap.size ∧ meth.locks = false ∧ (Jvm.Cond.and given_1 narrow_1).before #[Value.ref b] s = true

theorem lw_cmp {L i : Nat} (hL : L < 2 ^ 30) (hi : i < 2 ^ 30) : nI L - nI 3 < nI i ↔ L < i + 3 := by
  rw [Int32.lt_iff_toInt_lt, pk_sub_toInt hL (by omega), nI_toInt (by omega)]
  omega
theorem rw_sld {p : Program} {l : Launch} {e : Env} {R : Room} {s : State} {m : MethodId} {args : Array Value} {below : List Frame} {meth : Method} {c : Code} {H H0 : Heap} {locs : List Loc} {cells slots : Nat} {Q : State → Prop} {cc : ByteArray} {pc : Nat} {ls : Array Slot} {rest : List Value} {A : Nat → Prop} (hx : p.tables.exec = Jvm.exec) (hb : c.code = cc) {b L k : Nat} {xs : Nat → Int32} (hX : va_X b L xs s H0) (hbl : b < H0.size) (hbA : ¬ A b) (hS : va_S A H0 H locs) (hk : k < L) (hL : L < 2 ^ 31) (hdg : decode cc pc = .ok (.iaload, 1))
    (kk : W p l e R s m args below meth c H locs cells slots Q (F0 m (pc + 1) ls (.int (xs k) :: rest))) : W p l e R s m args below meth c H locs cells slots Q (F0 m pc ls (.int (nI k) :: .ref b :: rest)) :=
  va_sld hx hb hX hbl hbA hS (vp_in_nI hk hL) hdg (rw_top (by rw [nI_clamp (by omega)]) kk)
/-- THE INVARIANT: the desk holds n and a rank, the model the same n and the order of that rank -/
def lw_I (D : va_G) (cA : ClassId) (s : State) (h hm : Nat) (H : Heap) (locs : List Loc) : Prop := ∃ (n r fa ea pa qa la : Nat) (ff fe fp fq fl : Nat → Int32), (1 ≤ n ∧ n ≤ 7 ∧ r < pf_fac n) ∧ (∀ k, k < 8 → ff k = nI (pf_fac k)) ∧ (∀ k, k < n → fp k = nI (pf_dg (pf_un n r) k)) ∧ va_P D classes [(h, .inr (0, [.ref fa, .ref ea, .int (nI n), .int (nI r)])), (fa, .inl (cA, 8, .inl ff)), (ea, .inl (cA, 7, .inl fe)), (hm, .inr (2, [.int (nI n), .ref pa, .ref qa, .ref la])), (pa, .inl (cA, 8, .inl fp)), (qa, .inl (cA, 8, .inl fq)), (la, .inl (cA, 8, .inl fl))] H ∧ va_D (fun q : Nat => s.heap.size ≤ q) [(h, .inr (0, [.ref fa, .ref ea, .int (nI n), .int (nI r)])), (fa, .inl (cA, 8, .inl ff)), (ea, .inl (cA, 7, .inl fe)), (hm, .inr (2, [.int (nI n), .ref pa, .ref qa, .ref la])), (pa, .inl (cA, 8, .inl fp)), (qa, .inl (cA, 8, .inl fq)), (la, .inl (cA, 8, .inl fl))] ∧ va_S (fun q : Nat => s.heap.size ≤ q) s.heap H locs
end
section
/-! the law's loop -/
set_option maxHeartbeats 4000000 in
set_option maxRecDepth 100000 in
/-- THE LAW'S LOOP: at its head, with k triples read -/
theorem law_loop {p : Program} {l : Launch} {e : Env} {s : State} {m : MethodId} {below : List Frame} {meth : Method} {c : Code} {D : va_G} {cA : ClassId} {b L : Nat} {xs : Nat → Int32} (hL : L ≤ 1536) (C0 : lw_At p s m meth c b L xs) (hK : va_K D classes [(cA, .int)] s) (h hm : Nat) : ∀ (t k : Nat) (H : Heap) (locs : List Loc) (ls : Array Slot), L < 3 * k + 3 + 3 * t → 3 * k ≤ L → lw_I D cA s h hm H locs → lv_has ls 4 [(0, .ref b), (1, .ref h), (2, .ref hm), (3, .int (nI (3 * k)))] → W p l e room_1 s m #[Value.ref b] below meth c H locs (7 + 18 * k) (47 + 36 * k) (lw_Z below #[Value.ref b] s) (F0 m 18 ls []) := by
  obtain ⟨hx, hb, hr, hml, hown, hts, hX, hbl, hlocks, hgv⟩ := C0
  have hA : ∀ q : Nat, s.heap.size ≤ q → (fun q : Nat => s.heap.size ≤ q) q := fun _ h => h
  have hbA : ¬ (fun q : Nat => s.heap.size ≤ q) b := Nat.not_le.mpr hbl
  have ht : ∀ w ∈ lw_g, w.before #[Value.ref b] s = true := fun w hw => hts w (List.mem_filter.mp hw).1
  have hown : s.vm.findClass "RankDeskLaw" = some m.cls := hown
  intro t
  induction t with
  | zero =>
    intro k H locs ls h1 h2 hI hl
    obtain ⟨n, r, fa, ea, pa, qa, la, ff, fe, fp, fq, fl, ⟨hn0, hn, hr0⟩, hff, hfp, hP, hD, hS⟩ := hI
    refine lv_iload_n hx hb d_L_law_18 rfl (lv_at hl 3 rfl) ?_
    refine lv_aload_n hx hb d_L_law_19 rfl (lv_at hl 0 rfl) ?_
    refine va_slen hx hb hX hbl hbA hS d_L_law_20 ?_
    refine rw_top (y := nI L) rfl ?_
    refine lv_iconst (v := (nI 3)) hx hb d_L_law_21 (by decide) ?_
    refine lv_isub hx hb d_L_law_22 ?_
    refine lv_icmp_gt (tgt := 297) hx hb d_L_law_23 (by decide) (fun c1 => ?_) (fun c1 => ?_)
    · refine lv_iconst (v := 1) hx hb d_L_law_297 (by decide) ?_
      refine va_forget (fun q hq => hS.2.2 q hq) ?_
      refine W.widen (k := 858104) (n := 6527936) (by omega) (by omega) ?_
      exact lw_ret hx hb hr hlocks d_L_law_298
    · exact absurd ((lw_cmp (by omega) (by omega)).mpr (by omega)) c1
  | succ t ih =>
    intro k H locs ls h1 h2 hI hl
    obtain ⟨n, r, fa, ea, pa, qa, la, ff, fe, fp, fq, fl, ⟨hn0, hn, hr0⟩, hff, hfp, hP, hD, hS⟩ := hI
    have kont : ∀ (H : Heap) (locs : List Loc) (ls : Array Slot), lw_I D cA s h hm H locs → lv_has ls 4 [(0, .ref b), (1, .ref h), (2, .ref hm), (3, .int (nI (3 * k)))] → 3 * k + 3 ≤ L → W p l e room_1 s m #[Value.ref b] below meth c H locs (7 + 18 * (k + 1)) (47 + 36 * (k + 1)) (lw_Z below #[Value.ref b] s) (F0 m 291 ls []) := by
      intro H locs ls hI hl hle
      refine lv_iinc (v := (nI (3 * (k + 1)))) (lv' := [(3, .int (nI (3 * (k + 1)))), (0, .ref b), (1, .ref h), (2, .ref hm)]) hx hb d_L_law_291 hl (k := 3) rfl (by rw [show 3 * (k + 1) = 3 * k + 3 by omega]; exact nI_add (3 * k) 3) (by decide) rfl (fun ls hl => ?_)
      refine lv_goto (tgt := 18) hx hb d_L_law_294 (by decide) ?_
      exact ih (k + 1) H locs ls (by omega) (by omega) hI (lv_sub hl [1, 2, 3, 0] rfl)
    refine lv_iload_n hx hb d_L_law_18 rfl (lv_at hl 3 rfl) ?_
    refine lv_aload_n hx hb d_L_law_19 rfl (lv_at hl 0 rfl) ?_
    refine va_slen hx hb hX hbl hbA hS d_L_law_20 ?_
    refine rw_top (y := nI L) rfl ?_
    refine lv_iconst (v := (nI 3)) hx hb d_L_law_21 (by decide) ?_
    refine lv_isub hx hb d_L_law_22 ?_
    refine lv_icmp_gt (tgt := 297) hx hb d_L_law_23 (by decide) (fun c1 => ?_) (fun c1 => ?_)
    · refine lv_iconst (v := 1) hx hb d_L_law_297 (by decide) ?_
      refine va_forget (fun q hq => hS.2.2 q hq) ?_
      refine W.widen (k := 858104) (n := 6527936) (by omega) (by omega) ?_
      exact lw_ret hx hb hr hlocks d_L_law_298
    · have hle : 3 * k + 3 ≤ L := by
        rcases Nat.lt_or_ge L (3 * k + 3) with q | q
        · exact absurd ((lw_cmp (by omega) (by omega)).mpr q) c1
        · exact q
      have kont := fun H locs ls a b => kont H locs ls a b hle
      refine lv_aload_n hx hb d_L_law_26 rfl (lv_at hl 0 rfl) ?_
      refine lv_iload_n hx hb d_L_law_27 rfl (lv_at hl 3 rfl) ?_
      refine rw_sld (k := 3 * k) hx hb hX hbl hbA hS (by omega) (by omega) d_L_law_28 ?_
      refine lv_bipush (v := (nI 15)) hx hb d_L_law_29 (by decide) ?_
      refine lv_iand hx hb d_L_law_31 ?_
      obtain ⟨j, hj, ej⟩ := pk_andE (xs (3 * k)) (m := nI 15) 4 (by decide)
      refine rw_top ej ?_
      rcases (show j = 0 ∨ j = 1 ∨ j = 2 ∨ j = 3 ∨ j = 4 ∨ j = 5 ∨ j = 6 ∨ j = 7 ∨ j = 8 ∨ j = 9 ∨ j = 10 ∨ 10 < j by omega) with rfl | rfl | rfl | rfl | rfl | rfl | rfl | rfl | rfl | rfl | rfl | hgt
      · refine lv_tableIn (off := 60) (tgt := 92) hx hb d_L_law_32 (by decide) (by decide) (by decide) (by decide) ?_
        refine lv_aload_n hx hb d_L_law_92 rfl (lv_at hl 1 rfl) ?_
        refine lv_aload_n hx hb d_L_law_93 rfl (lv_at hl 0 rfl) ?_
        refine lv_iload_n hx hb d_L_law_94 rfl (lv_at hl 3 rfl) ?_
        refine lv_iconst (v := (nI 1)) hx hb d_L_law_95 (by decide) ?_
        refine rw_iadd (r := (3 * k) + 1) hx hb d_L_law_96 rfl ?_
        refine rw_sld (k := (3 * k) + 1) hx hb hX hbl hbA hS (by omega) (by omega) d_L_law_97 ?_
        refine cl_v (D := D) (cA := cA) (wc := [(h, .inr (0, [.ref fa, .ref ea, .int (nI n), .int (nI r)]))]) (wr := [(fa, .inl (cA, 8, .inl ff)), (ea, .inl (cA, 7, .inl fe)), (hm, .inr (2, [.int (nI n), .ref pa, .ref qa, .ref la])), (pa, .inl (cA, 8, .inl fp)), (qa, .inl (cA, 8, .inl fq)), (la, .inl (cA, 8, .inl fl))]) (w1 := fun _ => [(h, .inr (0, [.ref fa, .ref ea, .int (nI (1 + zn_pl (xs (3 * k + 1)) 7)), .int (nI 0)]))]) (rn_V (As := [.int (xs ((3 * k) + 1))]) (rest := []) ⟨hx, hb, hml, hown, ht⟩ (c_X_size l D cA H.size h (.ref fa) (.ref ea) (.int (nI n)) (.int (nI r)) (xs (3 * k + 1))) mb_X_size tm_X_size ts_X_size tl_L_13 rfl rfl ⟨Nat.le_of_ble_eq_true rfl, Nat.le_of_ble_eq_true rfl⟩ (pr_V (q0 := 0) (ci := 0) (pr_Z hP hK hD [0] rfl (by decide) rfl) hP hK rfl rfl rfl) rfl hl.1 rfl (Nat.le_of_ble_eq_true rfl) d_L_law_98 ⟨by show _ ≤ 858104; omega, by show _ ≤ 6527936; omega⟩) hP hD hS hA [0] [1, 2, 3, 4, 5, 6] rfl rfl (by decide) (by decide) (fun _u H locs hw hP hD hS => ?_)
        have hP : va_P D classes [(fa, .inl (cA, 8, .inl ff)), (ea, .inl (cA, 7, .inl fe)), (hm, .inr (2, [.int (nI n), .ref pa, .ref qa, .ref la])), (pa, .inl (cA, 8, .inl fp)), (qa, .inl (cA, 8, .inl fq)), (la, .inl (cA, 8, .inl fl)), (h, .inr (0, [.ref fa, .ref ea, .int (nI (1 + zn_pl (xs (3 * k + 1)) 7)), .int (nI 0)]))] H := hP
        have hD : va_D (fun q : Nat => s.heap.size ≤ q) [(fa, .inl (cA, 8, .inl ff)), (ea, .inl (cA, 7, .inl fe)), (hm, .inr (2, [.int (nI n), .ref pa, .ref qa, .ref la])), (pa, .inl (cA, 8, .inl fp)), (qa, .inl (cA, 8, .inl fq)), (la, .inl (cA, 8, .inl fl)), (h, .inr (0, [.ref fa, .ref ea, .int (nI (1 + zn_pl (xs (3 * k + 1)) 7)), .int (nI 0)]))] := hD
        refine lv_aload_n hx hb d_L_law_101 rfl (lv_at hl 2 rfl) ?_
        refine lv_aload_n hx hb d_L_law_102 rfl (lv_at hl 0 rfl) ?_
        refine lv_iload_n hx hb d_L_law_103 rfl (lv_at hl 3 rfl) ?_
        refine lv_iconst (v := (nI 1)) hx hb d_L_law_104 (by decide) ?_
        refine rw_iadd (r := (3 * k) + 1) hx hb d_L_law_105 rfl ?_
        refine rw_sld (k := (3 * k) + 1) hx hb hX hbl hbA hS (by omega) (by omega) d_L_law_106 ?_
        refine cl_v (D := D) (cA := cA) (wc := [(hm, .inr (2, [.int (nI n), .ref pa, .ref qa, .ref la])), (pa, .inl (cA, 8, .inl fp))]) (wr := [(fa, .inl (cA, 8, .inl ff)), (ea, .inl (cA, 7, .inl fe)), (qa, .inl (cA, 8, .inl fq)), (la, .inl (cA, 8, .inl fl)), (h, .inr (0, [.ref fa, .ref ea, .int (nI (1 + zn_pl (xs (3 * k + 1)) 7)), .int (nI 0)]))]) (w1 := fun gp => [(hm, .inr (2, [.int (nI (1 + zn_pl (xs (3 * k + 1)) 7)), .ref pa, .ref qa, .ref la])), (pa, .inl (cA, 8, .inl gp))]) (rn_V (As := [.int (xs ((3 * k) + 1))]) (rest := []) ⟨hx, hb, hml, hown, ht⟩ (c_M_size l D cA H.size hm pa (.ref qa) (.ref la) fp (.int (nI n)) (xs (3 * k + 1))) mb_M_size tm_M_size ts_M_size tl_L_17 rfl rfl ⟨Nat.le_of_ble_eq_true rfl, Nat.le_of_ble_eq_true rfl⟩ (pr_V (q0 := 2) (ci := 2) (pr_Z hP hK hD [2, 3] rfl (by decide) rfl) hP hK rfl rfl rfl) rfl hl.1 rfl (Nat.le_of_ble_eq_true rfl) d_L_law_107 ⟨by show _ ≤ 858104; omega, by show _ ≤ 6527936; omega⟩) hP hD hS hA [2, 3] [0, 1, 4, 5, 6] rfl rfl (by decide) (by decide) (fun gp H locs hw hP hD hS => ?_)
        have hP : va_P D classes [(fa, .inl (cA, 8, .inl ff)), (ea, .inl (cA, 7, .inl fe)), (qa, .inl (cA, 8, .inl fq)), (la, .inl (cA, 8, .inl fl)), (h, .inr (0, [.ref fa, .ref ea, .int (nI (1 + zn_pl (xs (3 * k + 1)) 7)), .int (nI 0)])), (hm, .inr (2, [.int (nI (1 + zn_pl (xs (3 * k + 1)) 7)), .ref pa, .ref qa, .ref la])), (pa, .inl (cA, 8, .inl gp))] H := hP
        have hD : va_D (fun q : Nat => s.heap.size ≤ q) [(fa, .inl (cA, 8, .inl ff)), (ea, .inl (cA, 7, .inl fe)), (qa, .inl (cA, 8, .inl fq)), (la, .inl (cA, 8, .inl fl)), (h, .inr (0, [.ref fa, .ref ea, .int (nI (1 + zn_pl (xs (3 * k + 1)) 7)), .int (nI 0)])), (hm, .inr (2, [.int (nI (1 + zn_pl (xs (3 * k + 1)) 7)), .ref pa, .ref qa, .ref la])), (pa, .inl (cA, 8, .inl gp))] := hD
        refine lv_goto (tgt := 291) hx hb d_L_law_110 (by decide) ?_
        have hp7 := zn_plt (xs (3 * k + 1)) (show 0 < 7 by omega)
        refine W.widen (k := 7 + 18 * (k + 1)) (n := 47 + 36 * (k + 1)) (by omega) (by omega) ?_
        exact kont H locs ls ⟨(1 + zn_pl (xs (3 * k + 1)) 7), 0, fa, ea, pa, qa, la, ff, fe, gp, fq, fl, ⟨by omega, by omega, pf_fac_pos _⟩, hff, (fun k hk => by rw [hw k (by omega), pu_id (by omega) (by omega) hk]), hP.sub [4, 0, 1, 5, 6, 2, 3] rfl, hD.sub [4, 0, 1, 5, 6, 2, 3] (by decide) rfl, hS⟩ (lv_sub hl [0, 1, 2, 3] rfl)
      · refine lv_tableIn (off := 81) (tgt := 113) hx hb d_L_law_32 (by decide) (by decide) (by decide) (by decide) ?_
        have hsw := pu_swap hn0 hn hr0 (zn_plt (xs (3 * k + 1)) (show 0 < n by omega)) (zn_plt (xs (3 * k + 2)) (show 0 < n by omega))
        refine lv_aload_n hx hb d_L_law_113 rfl (lv_at hl 1 rfl) ?_
        refine lv_aload_n hx hb d_L_law_114 rfl (lv_at hl 0 rfl) ?_
        refine lv_iload_n hx hb d_L_law_115 rfl (lv_at hl 3 rfl) ?_
        refine lv_iconst (v := (nI 1)) hx hb d_L_law_116 (by decide) ?_
        refine rw_iadd (r := (3 * k) + 1) hx hb d_L_law_117 rfl ?_
        refine rw_sld (k := (3 * k) + 1) hx hb hX hbl hbA hS (by omega) (by omega) d_L_law_118 ?_
        refine lv_aload_n hx hb d_L_law_119 rfl (lv_at hl 0 rfl) ?_
        refine lv_iload_n hx hb d_L_law_120 rfl (lv_at hl 3 rfl) ?_
        refine lv_iconst (v := (nI 2)) hx hb d_L_law_121 (by decide) ?_
        refine rw_iadd (r := (3 * k) + 2) hx hb d_L_law_122 rfl ?_
        refine rw_sld (k := (3 * k) + 2) hx hb hX hbl hbA hS (by omega) (by omega) d_L_law_123 ?_
        refine cl_i (D := D) (cA := cA) (wc := [(h, .inr (0, [.ref fa, .ref ea, .int (nI n), .int (nI r)])), (fa, .inl (cA, 8, .inl ff))]) (wr := [(ea, .inl (cA, 7, .inl fe)), (hm, .inr (2, [.int (nI n), .ref pa, .ref qa, .ref la])), (pa, .inl (cA, 8, .inl fp)), (qa, .inl (cA, 8, .inl fq)), (la, .inl (cA, 8, .inl fl))]) (w1 := fun _ => [(h, .inr (0, [.ref fa, .ref ea, .int (nI n), .int (nI (pf_sr n r (zn_pl (xs (3 * k + 1)) n) (zn_pl (xs (3 * k + 2)) n)))])), (fa, .inl (cA, 8, .inl ff))]) (rn_V (As := [.int (xs ((3 * k) + 1)), .int (xs ((3 * k) + 2))]) (rest := []) ⟨hx, hb, hml, hown, ht⟩ (c_X_swap l D cA H.size h fa (.ref ea) ff (xs (3 * k + 1)) (xs (3 * k + 2)) n r hn0 hn hr0 hff) mb_X_swap tm_X_swap ts_X_swap tl_L_18 rfl rfl ⟨Nat.le_of_ble_eq_true rfl, Nat.le_of_ble_eq_true rfl⟩ (pr_V (q0 := 0) (ci := 0) (pr_Z hP hK hD [0, 1] rfl (by decide) rfl) hP hK rfl rfl rfl) rfl hl.1 rfl (Nat.le_of_ble_eq_true rfl) d_L_law_124 ⟨by show _ ≤ 858104; omega, by show _ ≤ 6527936; omega⟩) hP hD hS hA [0, 1] [2, 3, 4, 5, 6] rfl rfl (by decide) (by decide) (fun r_ _u H locs hw hP hD hS => ?_)
        have hP : va_P D classes [(ea, .inl (cA, 7, .inl fe)), (hm, .inr (2, [.int (nI n), .ref pa, .ref qa, .ref la])), (pa, .inl (cA, 8, .inl fp)), (qa, .inl (cA, 8, .inl fq)), (la, .inl (cA, 8, .inl fl)), (h, .inr (0, [.ref fa, .ref ea, .int (nI n), .int (nI (pf_sr n r (zn_pl (xs (3 * k + 1)) n) (zn_pl (xs (3 * k + 2)) n)))])), (fa, .inl (cA, 8, .inl ff))] H := hP
        have hD : va_D (fun q : Nat => s.heap.size ≤ q) [(ea, .inl (cA, 7, .inl fe)), (hm, .inr (2, [.int (nI n), .ref pa, .ref qa, .ref la])), (pa, .inl (cA, 8, .inl fp)), (qa, .inl (cA, 8, .inl fq)), (la, .inl (cA, 8, .inl fl)), (h, .inr (0, [.ref fa, .ref ea, .int (nI n), .int (nI (pf_sr n r (zn_pl (xs (3 * k + 1)) n) (zn_pl (xs (3 * k + 2)) n)))])), (fa, .inl (cA, 8, .inl ff))] := hD
        refine rw_top (y := (nI (pf_sb (zn_pl (xs (3 * k + 1)) n) (zn_pl (xs (3 * k + 2)) n)))) hw ?_
        refine lv_aload_n hx hb d_L_law_127 rfl (lv_at hl 2 rfl) ?_
        refine lv_aload_n hx hb d_L_law_128 rfl (lv_at hl 0 rfl) ?_
        refine lv_iload_n hx hb d_L_law_129 rfl (lv_at hl 3 rfl) ?_
        refine lv_iconst (v := (nI 1)) hx hb d_L_law_130 (by decide) ?_
        refine rw_iadd (r := (3 * k) + 1) hx hb d_L_law_131 rfl ?_
        refine rw_sld (k := (3 * k) + 1) hx hb hX hbl hbA hS (by omega) (by omega) d_L_law_132 ?_
        refine lv_aload_n hx hb d_L_law_133 rfl (lv_at hl 0 rfl) ?_
        refine lv_iload_n hx hb d_L_law_134 rfl (lv_at hl 3 rfl) ?_
        refine lv_iconst (v := (nI 2)) hx hb d_L_law_135 (by decide) ?_
        refine rw_iadd (r := (3 * k) + 2) hx hb d_L_law_136 rfl ?_
        refine rw_sld (k := (3 * k) + 2) hx hb hX hbl hbA hS (by omega) (by omega) d_L_law_137 ?_
        refine cl_i (D := D) (cA := cA) (wc := [(hm, .inr (2, [.int (nI n), .ref pa, .ref qa, .ref la])), (pa, .inl (cA, 8, .inl fp))]) (wr := [(ea, .inl (cA, 7, .inl fe)), (qa, .inl (cA, 8, .inl fq)), (la, .inl (cA, 8, .inl fl)), (h, .inr (0, [.ref fa, .ref ea, .int (nI n), .int (nI (pf_sr n r (zn_pl (xs (3 * k + 1)) n) (zn_pl (xs (3 * k + 2)) n)))])), (fa, .inl (cA, 8, .inl ff))]) (w1 := fun gp => [(hm, .inr (2, [.int (nI n), .ref pa, .ref qa, .ref la])), (pa, .inl (cA, 8, .inl gp))]) (rn_V (As := [.int (xs ((3 * k) + 1)), .int (xs ((3 * k) + 2))]) (rest := [.int (nI (pf_sb (zn_pl (xs (3 * k + 1)) n) (zn_pl (xs (3 * k + 2)) n)))]) ⟨hx, hb, hml, hown, ht⟩ (c_M_swap l D cA H.size hm pa (.ref qa) (.ref la) fp (pf_dg (pf_un n r)) (xs (3 * k + 1)) (xs (3 * k + 2)) n hn0 hn hfp) mb_M_swap tm_M_swap ts_M_swap tl_L_22 rfl rfl ⟨Nat.le_of_ble_eq_true rfl, Nat.le_of_ble_eq_true rfl⟩ (pr_V (q0 := 1) (ci := 2) (pr_Z hP hK hD [1, 2] rfl (by decide) rfl) hP hK rfl rfl rfl) rfl hl.1 rfl (Nat.le_of_ble_eq_true rfl) d_L_law_138 ⟨by show _ ≤ 858104; omega, by show _ ≤ 6527936; omega⟩) hP hD hS hA [1, 2] [0, 3, 4, 5, 6] rfl rfl (by decide) (by decide) (fun r_ gp H locs hw hP hD hS => ?_)
        have hP : va_P D classes [(ea, .inl (cA, 7, .inl fe)), (qa, .inl (cA, 8, .inl fq)), (la, .inl (cA, 8, .inl fl)), (h, .inr (0, [.ref fa, .ref ea, .int (nI n), .int (nI (pf_sr n r (zn_pl (xs (3 * k + 1)) n) (zn_pl (xs (3 * k + 2)) n)))])), (fa, .inl (cA, 8, .inl ff)), (hm, .inr (2, [.int (nI n), .ref pa, .ref qa, .ref la])), (pa, .inl (cA, 8, .inl gp))] H := hP
        have hD : va_D (fun q : Nat => s.heap.size ≤ q) [(ea, .inl (cA, 7, .inl fe)), (qa, .inl (cA, 8, .inl fq)), (la, .inl (cA, 8, .inl fl)), (h, .inr (0, [.ref fa, .ref ea, .int (nI n), .int (nI (pf_sr n r (zn_pl (xs (3 * k + 1)) n) (zn_pl (xs (3 * k + 2)) n)))])), (fa, .inl (cA, 8, .inl ff)), (hm, .inr (2, [.int (nI n), .ref pa, .ref qa, .ref la])), (pa, .inl (cA, 8, .inl gp))] := hD
        refine rw_top (y := (nI (pf_sb (zn_pl (xs (3 * k + 1)) n) (zn_pl (xs (3 * k + 2)) n)))) hw.1 ?_
        refine lv_icmp_eq (tgt := 291) hx hb d_L_law_141 (by decide) (fun _ => ?_) (fun q => absurd rfl q)
        refine W.widen (k := 7 + 18 * (k + 1)) (n := 47 + 36 * (k + 1)) (by omega) (by omega) ?_
        exact kont H locs ls ⟨n, (pf_sr n r (zn_pl (xs (3 * k + 1)) n) (zn_pl (xs (3 * k + 2)) n)), fa, ea, pa, qa, la, ff, fe, gp, fq, fl, ⟨hn0, hn, hsw.1⟩, hff, (fun k hk => by rw [hw.2 k hk, hsw.2 k hk]), hP.sub [3, 4, 0, 5, 6, 1, 2] rfl, hD.sub [3, 4, 0, 5, 6, 1, 2] (by decide) rfl, hS⟩ (lv_sub hl [0, 1, 2, 3] rfl)
      · refine lv_tableIn (off := 114) (tgt := 146) hx hb d_L_law_32 (by decide) (by decide) (by decide) (by decide) ?_
        refine lv_aload_n hx hb d_L_law_146 rfl (lv_at hl 1 rfl) ?_
        refine rc_V (As := []) (rest := []) ⟨hx, hb, hml, hown, ht⟩ (c_X_rank l D cA h (.ref fa) (.ref ea) (.int (nI n)) (nI r)) mb_X_rank tm_X_rank ts_X_rank tl_L_23 rfl rfl ⟨Nat.le_of_ble_eq_true rfl, Nat.le_of_ble_eq_true rfl⟩ (pr_V (q0 := 0) (ci := 0) (pr_R hP hK [0] rfl) hP hK rfl rfl rfl) rfl hl.1 rfl (Nat.le_of_ble_eq_true rfl) d_L_law_147 ⟨by show _ ≤ 858104; omega, by show _ ≤ 6527936; omega⟩ ?_
        refine lv_aload_n hx hb d_L_law_150 rfl (lv_at hl 2 rfl) ?_
        refine cl_i (D := D) (cA := cA) (wc := [(hm, .inr (2, [.int (nI n), .ref pa, .ref qa, .ref la])), (pa, .inl (cA, 8, .inl fp)), (qa, .inl (cA, 8, .inl fq))]) (wr := [(h, .inr (0, [.ref fa, .ref ea, .int (nI n), .int (nI r)])), (fa, .inl (cA, 8, .inl ff)), (ea, .inl (cA, 7, .inl fe)), (la, .inl (cA, 8, .inl fl))]) (w1 := fun gq => [(hm, .inr (2, [.int (nI n), .ref pa, .ref qa, .ref la])), (pa, .inl (cA, 8, .inl fp)), (qa, .inl (cA, 8, .inl gq))]) (rn_V (As := []) (rest := [.int (nI r)]) ⟨hx, hb, hml, hown, ht⟩ (c_M_rank l D cA H.size hm pa qa (.ref la) fp fq n r hn0 hn hr0 hfp) mb_M_rank tm_M_rank ts_M_rank tl_L_27 rfl rfl ⟨Nat.le_of_ble_eq_true rfl, Nat.le_of_ble_eq_true rfl⟩ (pr_V (q0 := 3) (ci := 2) (pr_Z hP hK hD [3, 4, 5] rfl (by decide) rfl) hP hK rfl rfl rfl) rfl hl.1 rfl (Nat.le_of_ble_eq_true rfl) d_L_law_151 ⟨by show _ ≤ 858104; omega, by show _ ≤ 6527936; omega⟩) hP hD hS hA [3, 4, 5] [0, 1, 2, 6] rfl rfl (by decide) (by decide) (fun r_ gq H locs hw hP hD hS => ?_)
        have hP : va_P D classes [(h, .inr (0, [.ref fa, .ref ea, .int (nI n), .int (nI r)])), (fa, .inl (cA, 8, .inl ff)), (ea, .inl (cA, 7, .inl fe)), (la, .inl (cA, 8, .inl fl)), (hm, .inr (2, [.int (nI n), .ref pa, .ref qa, .ref la])), (pa, .inl (cA, 8, .inl fp)), (qa, .inl (cA, 8, .inl gq))] H := hP
        have hD : va_D (fun q : Nat => s.heap.size ≤ q) [(h, .inr (0, [.ref fa, .ref ea, .int (nI n), .int (nI r)])), (fa, .inl (cA, 8, .inl ff)), (ea, .inl (cA, 7, .inl fe)), (la, .inl (cA, 8, .inl fl)), (hm, .inr (2, [.int (nI n), .ref pa, .ref qa, .ref la])), (pa, .inl (cA, 8, .inl fp)), (qa, .inl (cA, 8, .inl gq))] := hD
        refine rw_top (y := (nI r)) hw ?_
        refine lv_icmp_eq (tgt := 291) hx hb d_L_law_154 (by decide) (fun _ => ?_) (fun q => absurd rfl q)
        refine W.widen (k := 7 + 18 * (k + 1)) (n := 47 + 36 * (k + 1)) (by omega) (by omega) ?_
        exact kont H locs ls ⟨n, r, fa, ea, pa, qa, la, ff, fe, fp, gq, fl, ⟨hn0, hn, hr0⟩, hff, hfp, hP.sub [0, 1, 2, 4, 5, 6, 3] rfl, hD.sub [0, 1, 2, 4, 5, 6, 3] (by decide) rfl, hS⟩ (lv_sub hl [0, 1, 2, 3] rfl)
      · refine lv_tableIn (off := 127) (tgt := 159) hx hb d_L_law_32 (by decide) (by decide) (by decide) (by decide) ?_
        refine lv_aload_n hx hb d_L_law_159 rfl (lv_at hl 1 rfl) ?_
        refine lv_aload_n hx hb d_L_law_160 rfl (lv_at hl 0 rfl) ?_
        refine lv_iload_n hx hb d_L_law_161 rfl (lv_at hl 3 rfl) ?_
        refine lv_iconst (v := (nI 1)) hx hb d_L_law_162 (by decide) ?_
        refine rw_iadd (r := (3 * k) + 1) hx hb d_L_law_163 rfl ?_
        refine rw_sld (k := (3 * k) + 1) hx hb hX hbl hbA hS (by omega) (by omega) d_L_law_164 ?_
        refine cl_v (D := D) (cA := cA) (wc := [(h, .inr (0, [.ref fa, .ref ea, .int (nI n), .int (nI r)])), (fa, .inl (cA, 8, .inl ff))]) (wr := [(ea, .inl (cA, 7, .inl fe)), (hm, .inr (2, [.int (nI n), .ref pa, .ref qa, .ref la])), (pa, .inl (cA, 8, .inl fp)), (qa, .inl (cA, 8, .inl fq)), (la, .inl (cA, 8, .inl fl))]) (w1 := fun _ => [(h, .inr (0, [.ref fa, .ref ea, .int (nI n), .int (nI (zn_pl (xs (3 * k + 1)) (pf_fac n)))])), (fa, .inl (cA, 8, .inl ff))]) (rn_V (As := [.int (xs ((3 * k) + 1))]) (rest := []) ⟨hx, hb, hml, hown, ht⟩ (c_X_unrank l D cA H.size h fa (.ref ea) ff (xs (3 * k + 1)) n r hn0 hn hff) mb_X_unrank tm_X_unrank ts_X_unrank tl_L_28 rfl rfl ⟨Nat.le_of_ble_eq_true rfl, Nat.le_of_ble_eq_true rfl⟩ (pr_V (q0 := 0) (ci := 0) (pr_Z hP hK hD [0, 1] rfl (by decide) rfl) hP hK rfl rfl rfl) rfl hl.1 rfl (Nat.le_of_ble_eq_true rfl) d_L_law_165 ⟨by show _ ≤ 858104; omega, by show _ ≤ 6527936; omega⟩) hP hD hS hA [0, 1] [2, 3, 4, 5, 6] rfl rfl (by decide) (by decide) (fun _u H locs hw hP hD hS => ?_)
        have hP : va_P D classes [(ea, .inl (cA, 7, .inl fe)), (hm, .inr (2, [.int (nI n), .ref pa, .ref qa, .ref la])), (pa, .inl (cA, 8, .inl fp)), (qa, .inl (cA, 8, .inl fq)), (la, .inl (cA, 8, .inl fl)), (h, .inr (0, [.ref fa, .ref ea, .int (nI n), .int (nI (zn_pl (xs (3 * k + 1)) (pf_fac n)))])), (fa, .inl (cA, 8, .inl ff))] H := hP
        have hD : va_D (fun q : Nat => s.heap.size ≤ q) [(ea, .inl (cA, 7, .inl fe)), (hm, .inr (2, [.int (nI n), .ref pa, .ref qa, .ref la])), (pa, .inl (cA, 8, .inl fp)), (qa, .inl (cA, 8, .inl fq)), (la, .inl (cA, 8, .inl fl)), (h, .inr (0, [.ref fa, .ref ea, .int (nI n), .int (nI (zn_pl (xs (3 * k + 1)) (pf_fac n)))])), (fa, .inl (cA, 8, .inl ff))] := hD
        refine lv_aload_n hx hb d_L_law_168 rfl (lv_at hl 2 rfl) ?_
        refine lv_aload_n hx hb d_L_law_169 rfl (lv_at hl 0 rfl) ?_
        refine lv_iload_n hx hb d_L_law_170 rfl (lv_at hl 3 rfl) ?_
        refine lv_iconst (v := (nI 1)) hx hb d_L_law_171 (by decide) ?_
        refine rw_iadd (r := (3 * k) + 1) hx hb d_L_law_172 rfl ?_
        refine rw_sld (k := (3 * k) + 1) hx hb hX hbl hbA hS (by omega) (by omega) d_L_law_173 ?_
        refine cl_v (D := D) (cA := cA) (wc := [(hm, .inr (2, [.int (nI n), .ref pa, .ref qa, .ref la])), (pa, .inl (cA, 8, .inl fp))]) (wr := [(ea, .inl (cA, 7, .inl fe)), (qa, .inl (cA, 8, .inl fq)), (la, .inl (cA, 8, .inl fl)), (h, .inr (0, [.ref fa, .ref ea, .int (nI n), .int (nI (zn_pl (xs (3 * k + 1)) (pf_fac n)))])), (fa, .inl (cA, 8, .inl ff))]) (w1 := fun gp => [(hm, .inr (2, [.int (nI n), .ref pa, .ref qa, .ref la])), (pa, .inl (cA, 8, .inl gp))]) (rn_V (As := [.int (xs ((3 * k) + 1))]) (rest := []) ⟨hx, hb, hml, hown, ht⟩ (c_M_unrank l D cA H.size hm pa (.ref qa) (.ref la) fp (xs (3 * k + 1)) n hn0 hn) mb_M_unrank tm_M_unrank ts_M_unrank tl_L_31 rfl rfl ⟨Nat.le_of_ble_eq_true rfl, Nat.le_of_ble_eq_true rfl⟩ (pr_V (q0 := 1) (ci := 2) (pr_Z hP hK hD [1, 2] rfl (by decide) rfl) hP hK rfl rfl rfl) rfl hl.1 rfl (Nat.le_of_ble_eq_true rfl) d_L_law_174 ⟨by show _ ≤ 858104; omega, by show _ ≤ 6527936; omega⟩) hP hD hS hA [1, 2] [0, 3, 4, 5, 6] rfl rfl (by decide) (by decide) (fun gp H locs hw hP hD hS => ?_)
        have hP : va_P D classes [(ea, .inl (cA, 7, .inl fe)), (qa, .inl (cA, 8, .inl fq)), (la, .inl (cA, 8, .inl fl)), (h, .inr (0, [.ref fa, .ref ea, .int (nI n), .int (nI (zn_pl (xs (3 * k + 1)) (pf_fac n)))])), (fa, .inl (cA, 8, .inl ff)), (hm, .inr (2, [.int (nI n), .ref pa, .ref qa, .ref la])), (pa, .inl (cA, 8, .inl gp))] H := hP
        have hD : va_D (fun q : Nat => s.heap.size ≤ q) [(ea, .inl (cA, 7, .inl fe)), (qa, .inl (cA, 8, .inl fq)), (la, .inl (cA, 8, .inl fl)), (h, .inr (0, [.ref fa, .ref ea, .int (nI n), .int (nI (zn_pl (xs (3 * k + 1)) (pf_fac n)))])), (fa, .inl (cA, 8, .inl ff)), (hm, .inr (2, [.int (nI n), .ref pa, .ref qa, .ref la])), (pa, .inl (cA, 8, .inl gp))] := hD
        refine lv_goto (tgt := 291) hx hb d_L_law_177 (by decide) ?_
        refine W.widen (k := 7 + 18 * (k + 1)) (n := 47 + 36 * (k + 1)) (by omega) (by omega) ?_
        exact kont H locs ls ⟨n, (zn_pl (xs (3 * k + 1)) (pf_fac n)), fa, ea, pa, qa, la, ff, fe, gp, fq, fl, ⟨hn0, hn, zn_plt (xs (3 * k + 1)) (pf_fac_pos n)⟩, hff, hw, hP.sub [3, 4, 0, 5, 6, 1, 2] rfl, hD.sub [3, 4, 0, 5, 6, 1, 2] (by decide) rfl, hS⟩ (lv_sub hl [0, 1, 2, 3] rfl)
      · refine lv_tableIn (off := 148) (tgt := 180) hx hb d_L_law_32 (by decide) (by decide) (by decide) (by decide) ?_
        refine lv_aload_n hx hb d_L_law_180 rfl (lv_at hl 1 rfl) ?_
        refine cl_i (D := D) (cA := cA) (wc := [(h, .inr (0, [.ref fa, .ref ea, .int (nI n), .int (nI r)])), (fa, .inl (cA, 8, .inl ff))]) (wr := [(ea, .inl (cA, 7, .inl fe)), (hm, .inr (2, [.int (nI n), .ref pa, .ref qa, .ref la])), (pa, .inl (cA, 8, .inl fp)), (qa, .inl (cA, 8, .inl fq)), (la, .inl (cA, 8, .inl fl))]) (w1 := fun _ => [(h, .inr (0, [.ref fa, .ref ea, .int (nI n), .int (nI (pf_fw n r))])), (fa, .inl (cA, 8, .inl ff))]) (rn_V (As := []) (rest := []) ⟨hx, hb, hml, hown, ht⟩ (c_X_forward l D cA H.size h fa (.ref ea) ff n r hn0 hn hr0 hff) mb_X_forward tm_X_forward ts_X_forward tl_L_32 rfl rfl ⟨Nat.le_of_ble_eq_true rfl, Nat.le_of_ble_eq_true rfl⟩ (pr_V (q0 := 0) (ci := 0) (pr_Z hP hK hD [0, 1] rfl (by decide) rfl) hP hK rfl rfl rfl) rfl hl.1 rfl (Nat.le_of_ble_eq_true rfl) d_L_law_181 ⟨by show _ ≤ 858104; omega, by show _ ≤ 6527936; omega⟩) hP hD hS hA [0, 1] [2, 3, 4, 5, 6] rfl rfl (by decide) (by decide) (fun r_ _u H locs hw hP hD hS => ?_)
        have hP : va_P D classes [(ea, .inl (cA, 7, .inl fe)), (hm, .inr (2, [.int (nI n), .ref pa, .ref qa, .ref la])), (pa, .inl (cA, 8, .inl fp)), (qa, .inl (cA, 8, .inl fq)), (la, .inl (cA, 8, .inl fl)), (h, .inr (0, [.ref fa, .ref ea, .int (nI n), .int (nI (pf_fw n r))])), (fa, .inl (cA, 8, .inl ff))] H := hP
        have hD : va_D (fun q : Nat => s.heap.size ≤ q) [(ea, .inl (cA, 7, .inl fe)), (hm, .inr (2, [.int (nI n), .ref pa, .ref qa, .ref la])), (pa, .inl (cA, 8, .inl fp)), (qa, .inl (cA, 8, .inl fq)), (la, .inl (cA, 8, .inl fl)), (h, .inr (0, [.ref fa, .ref ea, .int (nI n), .int (nI (pf_fw n r))])), (fa, .inl (cA, 8, .inl ff))] := hD
        refine rw_top (y := (nI (pf_fb n r))) hw ?_
        refine lv_aload_n hx hb d_L_law_184 rfl (lv_at hl 2 rfl) ?_
        refine cl_i (D := D) (cA := cA) (wc := [(hm, .inr (2, [.int (nI n), .ref pa, .ref qa, .ref la])), (pa, .inl (cA, 8, .inl fp))]) (wr := [(ea, .inl (cA, 7, .inl fe)), (qa, .inl (cA, 8, .inl fq)), (la, .inl (cA, 8, .inl fl)), (h, .inr (0, [.ref fa, .ref ea, .int (nI n), .int (nI (pf_fw n r))])), (fa, .inl (cA, 8, .inl ff))]) (w1 := fun gp => [(hm, .inr (2, [.int (nI n), .ref pa, .ref qa, .ref la])), (pa, .inl (cA, 8, .inl gp))]) (rn_V (As := []) (rest := [.int (nI (pf_fb n r))]) ⟨hx, hb, hml, hown, ht⟩ (c_M_forward l D cA H.size hm pa (.ref qa) (.ref la) fp n r hn0 hn hr0 hfp) mb_M_forward tm_M_forward ts_M_forward tl_L_36 rfl rfl ⟨Nat.le_of_ble_eq_true rfl, Nat.le_of_ble_eq_true rfl⟩ (pr_V (q0 := 1) (ci := 2) (pr_Z hP hK hD [1, 2] rfl (by decide) rfl) hP hK rfl rfl rfl) rfl hl.1 rfl (Nat.le_of_ble_eq_true rfl) d_L_law_185 ⟨by show _ ≤ 858104; omega, by show _ ≤ 6527936; omega⟩) hP hD hS hA [1, 2] [0, 3, 4, 5, 6] rfl rfl (by decide) (by decide) (fun r_ gp H locs hw hP hD hS => ?_)
        have hP : va_P D classes [(ea, .inl (cA, 7, .inl fe)), (qa, .inl (cA, 8, .inl fq)), (la, .inl (cA, 8, .inl fl)), (h, .inr (0, [.ref fa, .ref ea, .int (nI n), .int (nI (pf_fw n r))])), (fa, .inl (cA, 8, .inl ff)), (hm, .inr (2, [.int (nI n), .ref pa, .ref qa, .ref la])), (pa, .inl (cA, 8, .inl gp))] H := hP
        have hD : va_D (fun q : Nat => s.heap.size ≤ q) [(ea, .inl (cA, 7, .inl fe)), (qa, .inl (cA, 8, .inl fq)), (la, .inl (cA, 8, .inl fl)), (h, .inr (0, [.ref fa, .ref ea, .int (nI n), .int (nI (pf_fw n r))])), (fa, .inl (cA, 8, .inl ff)), (hm, .inr (2, [.int (nI n), .ref pa, .ref qa, .ref la])), (pa, .inl (cA, 8, .inl gp))] := hD
        refine rw_top (y := (nI (pf_fb n r))) hw.1 ?_
        refine lv_icmp_eq (tgt := 291) hx hb d_L_law_188 (by decide) (fun _ => ?_) (fun q => absurd rfl q)
        refine W.widen (k := 7 + 18 * (k + 1)) (n := 47 + 36 * (k + 1)) (by omega) (by omega) ?_
        exact kont H locs ls ⟨n, (pf_fw n r), fa, ea, pa, qa, la, ff, fe, gp, fq, fl, ⟨hn0, hn, pf_fw_lt⟩, hff, hw.2, hP.sub [3, 4, 0, 5, 6, 1, 2] rfl, hD.sub [3, 4, 0, 5, 6, 1, 2] (by decide) rfl, hS⟩ (lv_sub hl [0, 1, 2, 3] rfl)
      · refine lv_tableIn (off := 161) (tgt := 193) hx hb d_L_law_32 (by decide) (by decide) (by decide) (by decide) ?_
        refine lv_aload_n hx hb d_L_law_193 rfl (lv_at hl 1 rfl) ?_
        refine lv_aload_n hx hb d_L_law_194 rfl (lv_at hl 0 rfl) ?_
        refine lv_iload_n hx hb d_L_law_195 rfl (lv_at hl 3 rfl) ?_
        refine lv_iconst (v := (nI 1)) hx hb d_L_law_196 (by decide) ?_
        refine rw_iadd (r := (3 * k) + 1) hx hb d_L_law_197 rfl ?_
        refine rw_sld (k := (3 * k) + 1) hx hb hX hbl hbA hS (by omega) (by omega) d_L_law_198 ?_
        refine cl_i (D := D) (cA := cA) (wc := []) (wr := [(h, .inr (0, [.ref fa, .ref ea, .int (nI n), .int (nI r)])), (fa, .inl (cA, 8, .inl ff)), (ea, .inl (cA, 7, .inl fe)), (hm, .inr (2, [.int (nI n), .ref pa, .ref qa, .ref la])), (pa, .inl (cA, 8, .inl fp)), (qa, .inl (cA, 8, .inl fq)), (la, .inl (cA, 8, .inl fl))]) (w1 := fun _ => []) (rn_V (As := [.int (xs ((3 * k) + 1))]) (rest := []) ⟨hx, hb, hml, hown, ht⟩ (c_X_at l D cA H.size h fa (.ref ea) ff (xs (3 * k + 1)) n r hn0 hn hr0 hff) mb_X_at tm_X_at ts_X_at tl_L_37 rfl rfl ⟨Nat.le_of_ble_eq_true rfl, Nat.le_of_ble_eq_true rfl⟩ (pr_V (q0 := 0) (ci := 0) (pr_M hP hK [0, 1] rfl) hP hK rfl rfl rfl) rfl hl.1 rfl (Nat.le_of_ble_eq_true rfl) d_L_law_199 ⟨by show _ ≤ 858104; omega, by show _ ≤ 6527936; omega⟩) hP hD hS hA [] [0, 1, 2, 3, 4, 5, 6] rfl rfl (by decide) (by decide) (fun r_ _u H locs hw hP hD hS => ?_)
        have hP : va_P D classes [(h, .inr (0, [.ref fa, .ref ea, .int (nI n), .int (nI r)])), (fa, .inl (cA, 8, .inl ff)), (ea, .inl (cA, 7, .inl fe)), (hm, .inr (2, [.int (nI n), .ref pa, .ref qa, .ref la])), (pa, .inl (cA, 8, .inl fp)), (qa, .inl (cA, 8, .inl fq)), (la, .inl (cA, 8, .inl fl))] H := hP
        have hD : va_D (fun q : Nat => s.heap.size ≤ q) [(h, .inr (0, [.ref fa, .ref ea, .int (nI n), .int (nI r)])), (fa, .inl (cA, 8, .inl ff)), (ea, .inl (cA, 7, .inl fe)), (hm, .inr (2, [.int (nI n), .ref pa, .ref qa, .ref la])), (pa, .inl (cA, 8, .inl fp)), (qa, .inl (cA, 8, .inl fq)), (la, .inl (cA, 8, .inl fl))] := hD
        refine rw_top (y := (nI (pf_dg (pf_un n r) (zn_pl (xs (3 * k + 1)) n)))) hw ?_
        refine lv_aload_n hx hb d_L_law_202 rfl (lv_at hl 2 rfl) ?_
        refine lv_aload_n hx hb d_L_law_203 rfl (lv_at hl 0 rfl) ?_
        refine lv_iload_n hx hb d_L_law_204 rfl (lv_at hl 3 rfl) ?_
        refine lv_iconst (v := (nI 1)) hx hb d_L_law_205 (by decide) ?_
        refine rw_iadd (r := (3 * k) + 1) hx hb d_L_law_206 rfl ?_
        refine rw_sld (k := (3 * k) + 1) hx hb hX hbl hbA hS (by omega) (by omega) d_L_law_207 ?_
        refine rc_V (As := [.int (xs ((3 * k) + 1))]) (rest := [.int (nI (pf_dg (pf_un n r) (zn_pl (xs (3 * k + 1)) n)))]) ⟨hx, hb, hml, hown, ht⟩ (c_M_at l D cA hm pa (.ref qa) (.ref la) fp (pf_dg (pf_un n r)) (xs (3 * k + 1)) n hn0 hn hfp) mb_M_at tm_M_at ts_M_at tl_L_41 rfl rfl ⟨Nat.le_of_ble_eq_true rfl, Nat.le_of_ble_eq_true rfl⟩ (pr_V (q0 := 3) (ci := 2) (pr_R hP hK [3, 4] rfl) hP hK rfl rfl rfl) rfl hl.1 rfl (Nat.le_of_ble_eq_true rfl) d_L_law_208 ⟨by show _ ≤ 858104; omega, by show _ ≤ 6527936; omega⟩ ?_
        refine lv_icmp_eq (tgt := 291) hx hb d_L_law_211 (by decide) (fun _ => ?_) (fun q => absurd rfl q)
        refine W.widen (k := 7 + 18 * (k + 1)) (n := 47 + 36 * (k + 1)) (by omega) (by omega) ?_
        exact kont H locs ls ⟨n, r, fa, ea, pa, qa, la, ff, fe, fp, fq, fl, ⟨hn0, hn, hr0⟩, hff, hfp, hP.sub [0, 1, 2, 3, 4, 5, 6] rfl, hD.sub [0, 1, 2, 3, 4, 5, 6] (by decide) rfl, hS⟩ (lv_sub hl [0, 1, 2, 3] rfl)
      · refine lv_tableIn (off := 184) (tgt := 216) hx hb d_L_law_32 (by decide) (by decide) (by decide) (by decide) ?_
        refine lv_aload_n hx hb d_L_law_216 rfl (lv_at hl 1 rfl) ?_
        refine rc_V (As := []) (rest := []) ⟨hx, hb, hml, hown, ht⟩ (c_X_inversions l D cA h fa (.ref ea) ff n r hn0 hn hr0 hff) mb_X_inversions tm_X_inversions ts_X_inversions tl_L_42 rfl rfl ⟨Nat.le_of_ble_eq_true rfl, Nat.le_of_ble_eq_true rfl⟩ (pr_V (q0 := 0) (ci := 0) (pr_R hP hK [0, 1] rfl) hP hK rfl rfl rfl) rfl hl.1 rfl (Nat.le_of_ble_eq_true rfl) d_L_law_217 ⟨by show _ ≤ 858104; omega, by show _ ≤ 6527936; omega⟩ ?_
        refine lv_aload_n hx hb d_L_law_220 rfl (lv_at hl 2 rfl) ?_
        refine rc_V (As := []) (rest := [.int (nI (pf_iv n 0 r))]) ⟨hx, hb, hml, hown, ht⟩ (c_M_inversions l D cA hm pa (.ref qa) (.ref la) fp (pf_dg (pf_un n r)) n hn0 hn (fun k => pf_dg_lt _ _) hfp) mb_M_inversions tm_M_inversions ts_M_inversions tl_L_45 rfl rfl ⟨Nat.le_of_ble_eq_true rfl, Nat.le_of_ble_eq_true rfl⟩ (pr_V (q0 := 3) (ci := 2) (pr_R hP hK [3, 4] rfl) hP hK rfl rfl rfl) rfl hl.1 rfl (Nat.le_of_ble_eq_true rfl) d_L_law_221 ⟨by show _ ≤ 858104; omega, by show _ ≤ 6527936; omega⟩ ?_
        refine rw_top (y := (nI (pf_iv n 0 r))) (by rw [pu_inv hn0 hn hr0]) ?_
        refine lv_icmp_eq (tgt := 291) hx hb d_L_law_224 (by decide) (fun _ => ?_) (fun q => absurd rfl q)
        refine W.widen (k := 7 + 18 * (k + 1)) (n := 47 + 36 * (k + 1)) (by omega) (by omega) ?_
        exact kont H locs ls ⟨n, r, fa, ea, pa, qa, la, ff, fe, fp, fq, fl, ⟨hn0, hn, hr0⟩, hff, hfp, hP.sub [0, 1, 2, 3, 4, 5, 6] rfl, hD.sub [0, 1, 2, 3, 4, 5, 6] (by decide) rfl, hS⟩ (lv_sub hl [0, 1, 2, 3] rfl)
      · refine lv_tableIn (off := 197) (tgt := 229) hx hb d_L_law_32 (by decide) (by decide) (by decide) (by decide) ?_
        refine lv_aload_n hx hb d_L_law_229 rfl (lv_at hl 1 rfl) ?_
        refine cl_i (D := D) (cA := cA) (wc := []) (wr := [(h, .inr (0, [.ref fa, .ref ea, .int (nI n), .int (nI r)])), (fa, .inl (cA, 8, .inl ff)), (ea, .inl (cA, 7, .inl fe)), (hm, .inr (2, [.int (nI n), .ref pa, .ref qa, .ref la])), (pa, .inl (cA, 8, .inl fp)), (qa, .inl (cA, 8, .inl fq)), (la, .inl (cA, 8, .inl fl))]) (w1 := fun _ => []) (rn_V (As := []) (rest := []) ⟨hx, hb, hml, hown, ht⟩ (c_X_exchanges l D cA H.size h fa (.ref ea) ff n r hn0 hn hr0 hff) mb_X_exchanges tm_X_exchanges ts_X_exchanges tl_L_46 rfl rfl ⟨Nat.le_of_ble_eq_true rfl, Nat.le_of_ble_eq_true rfl⟩ (pr_V (q0 := 0) (ci := 0) (pr_M hP hK [0, 1] rfl) hP hK rfl rfl rfl) rfl hl.1 rfl (Nat.le_of_ble_eq_true rfl) d_L_law_230 ⟨by show _ ≤ 858104; omega, by show _ ≤ 6527936; omega⟩) hP hD hS hA [] [0, 1, 2, 3, 4, 5, 6] rfl rfl (by decide) (by decide) (fun r_ _u H locs hw hP hD hS => ?_)
        have hP : va_P D classes [(h, .inr (0, [.ref fa, .ref ea, .int (nI n), .int (nI r)])), (fa, .inl (cA, 8, .inl ff)), (ea, .inl (cA, 7, .inl fe)), (hm, .inr (2, [.int (nI n), .ref pa, .ref qa, .ref la])), (pa, .inl (cA, 8, .inl fp)), (qa, .inl (cA, 8, .inl fq)), (la, .inl (cA, 8, .inl fl))] H := hP
        have hD : va_D (fun q : Nat => s.heap.size ≤ q) [(h, .inr (0, [.ref fa, .ref ea, .int (nI n), .int (nI r)])), (fa, .inl (cA, 8, .inl ff)), (ea, .inl (cA, 7, .inl fe)), (hm, .inr (2, [.int (nI n), .ref pa, .ref qa, .ref la])), (pa, .inl (cA, 8, .inl fp)), (qa, .inl (cA, 8, .inl fq)), (la, .inl (cA, 8, .inl fl))] := hD
        refine rw_top (y := (nI (n - (pf_et (pf_un n r) n).2))) hw ?_
        refine lv_aload_n hx hb d_L_law_233 rfl (lv_at hl 2 rfl) ?_
        refine rc_V (As := []) (rest := [.int (nI (n - (pf_et (pf_un n r) n).2))]) ⟨hx, hb, hml, hown, ht⟩ (c_M_exchanges l D cA hm pa (.ref qa) (.ref la) fp (pf_dg (pf_un n r)) n hn0 hn (fun k => pf_dg_lt _ _) hfp (fun k hk => pu_dgn hn0 hn hr0 hk) (fun i hi => (pu_rg hn0 hn hr0 hi).2.2)) mb_M_exchanges tm_M_exchanges ts_M_exchanges tl_L_49 rfl rfl ⟨Nat.le_of_ble_eq_true rfl, Nat.le_of_ble_eq_true rfl⟩ (pr_V (q0 := 3) (ci := 2) (pr_R hP hK [3, 4] rfl) hP hK rfl rfl rfl) rfl hl.1 rfl (Nat.le_of_ble_eq_true rfl) d_L_law_234 ⟨by show _ ≤ 858104; omega, by show _ ≤ 6527936; omega⟩ ?_
        refine rw_top (y := (nI (n - (pf_et (pf_un n r) n).2))) (by rw [pu_ex hn0 hn hr0]) ?_
        refine lv_icmp_eq (tgt := 291) hx hb d_L_law_237 (by decide) (fun _ => ?_) (fun q => absurd rfl q)
        refine W.widen (k := 7 + 18 * (k + 1)) (n := 47 + 36 * (k + 1)) (by omega) (by omega) ?_
        exact kont H locs ls ⟨n, r, fa, ea, pa, qa, la, ff, fe, fp, fq, fl, ⟨hn0, hn, hr0⟩, hff, hfp, hP.sub [0, 1, 2, 3, 4, 5, 6] rfl, hD.sub [0, 1, 2, 3, 4, 5, 6] (by decide) rfl, hS⟩ (lv_sub hl [0, 1, 2, 3] rfl)
      · refine lv_tableIn (off := 210) (tgt := 242) hx hb d_L_law_32 (by decide) (by decide) (by decide) (by decide) ?_
        refine lv_aload_n hx hb d_L_law_242 rfl (lv_at hl 1 rfl) ?_
        refine cl_i (D := D) (cA := cA) (wc := []) (wr := [(h, .inr (0, [.ref fa, .ref ea, .int (nI n), .int (nI r)])), (fa, .inl (cA, 8, .inl ff)), (ea, .inl (cA, 7, .inl fe)), (hm, .inr (2, [.int (nI n), .ref pa, .ref qa, .ref la])), (pa, .inl (cA, 8, .inl fp)), (qa, .inl (cA, 8, .inl fq)), (la, .inl (cA, 8, .inl fl))]) (w1 := fun _ => []) (rn_V (As := []) (rest := []) ⟨hx, hb, hml, hown, ht⟩ (c_X_turns l D cA H.size h fa (.ref ea) ff n r hn0 hn hr0 hff) mb_X_turns tm_X_turns ts_X_turns tl_L_50 rfl rfl ⟨Nat.le_of_ble_eq_true rfl, Nat.le_of_ble_eq_true rfl⟩ (pr_V (q0 := 0) (ci := 0) (pr_M hP hK [0, 1] rfl) hP hK rfl rfl rfl) rfl hl.1 rfl (Nat.le_of_ble_eq_true rfl) d_L_law_243 ⟨by show _ ≤ 858104; omega, by show _ ≤ 6527936; omega⟩) hP hD hS hA [] [0, 1, 2, 3, 4, 5, 6] rfl rfl (by decide) (by decide) (fun r_ _u H locs hw hP hD hS => ?_)
        have hP : va_P D classes [(h, .inr (0, [.ref fa, .ref ea, .int (nI n), .int (nI r)])), (fa, .inl (cA, 8, .inl ff)), (ea, .inl (cA, 7, .inl fe)), (hm, .inr (2, [.int (nI n), .ref pa, .ref qa, .ref la])), (pa, .inl (cA, 8, .inl fp)), (qa, .inl (cA, 8, .inl fq)), (la, .inl (cA, 8, .inl fl))] H := hP
        have hD : va_D (fun q : Nat => s.heap.size ≤ q) [(h, .inr (0, [.ref fa, .ref ea, .int (nI n), .int (nI r)])), (fa, .inl (cA, 8, .inl ff)), (ea, .inl (cA, 7, .inl fe)), (hm, .inr (2, [.int (nI n), .ref pa, .ref qa, .ref la])), (pa, .inl (cA, 8, .inl fp)), (qa, .inl (cA, 8, .inl fq)), (la, .inl (cA, 8, .inl fl))] := hD
        refine rw_top (y := (nI ((pf_tt (pf_un n r) n).2))) hw ?_
        refine lv_aload_n hx hb d_L_law_246 rfl (lv_at hl 2 rfl) ?_
        refine cl_i (D := D) (cA := cA) (wc := [(hm, .inr (2, [.int (nI n), .ref pa, .ref qa, .ref la])), (pa, .inl (cA, 8, .inl fp)), (qa, .inl (cA, 8, .inl fq)), (la, .inl (cA, 8, .inl fl))]) (wr := [(h, .inr (0, [.ref fa, .ref ea, .int (nI n), .int (nI r)])), (fa, .inl (cA, 8, .inl ff)), (ea, .inl (cA, 7, .inl fe))]) (w1 := fun (u2 : (Nat → Int32) × (Nat → Int32)) => [(hm, .inr (2, [.int (nI n), .ref pa, .ref qa, .ref la])), (pa, .inl (cA, 8, .inl fp)), (qa, .inl (cA, 8, .inl u2.1)), (la, .inl (cA, 8, .inl u2.2))]) (rn_V (As := []) (rest := [.int (nI ((pf_tt (pf_un n r) n).2))]) ⟨hx, hb, hml, hown, ht⟩ (c_M_turns l D cA H.size hm pa qa la fp fq fl (pf_dg (pf_un n r)) n hn0 hn (fun k => pf_dg_lt _ _) (fun k hk => pu_dgn hn0 hn hr0 hk) hfp (pu_tw hn0 hn hr0).1) mb_M_turns tm_M_turns ts_M_turns tl_L_53 rfl rfl ⟨Nat.le_of_ble_eq_true rfl, Nat.le_of_ble_eq_true rfl⟩ (pr_V (q0 := 3) (ci := 2) (pr_Z hP hK hD [3, 4, 5, 6] rfl (by decide) rfl) hP hK rfl rfl rfl) rfl hl.1 rfl (Nat.le_of_ble_eq_true rfl) d_L_law_247 ⟨by show _ ≤ 858104; omega, by show _ ≤ 6527936; omega⟩) hP hD hS hA [3, 4, 5, 6] [0, 1, 2] rfl rfl (by decide) (by decide) (fun r_ u2 H locs hw hP hD hS => ?_)
        have hP : va_P D classes [(h, .inr (0, [.ref fa, .ref ea, .int (nI n), .int (nI r)])), (fa, .inl (cA, 8, .inl ff)), (ea, .inl (cA, 7, .inl fe)), (hm, .inr (2, [.int (nI n), .ref pa, .ref qa, .ref la])), (pa, .inl (cA, 8, .inl fp)), (qa, .inl (cA, 8, .inl u2.1)), (la, .inl (cA, 8, .inl u2.2))] H := hP
        have hD : va_D (fun q : Nat => s.heap.size ≤ q) [(h, .inr (0, [.ref fa, .ref ea, .int (nI n), .int (nI r)])), (fa, .inl (cA, 8, .inl ff)), (ea, .inl (cA, 7, .inl fe)), (hm, .inr (2, [.int (nI n), .ref pa, .ref qa, .ref la])), (pa, .inl (cA, 8, .inl fp)), (qa, .inl (cA, 8, .inl u2.1)), (la, .inl (cA, 8, .inl u2.2))] := hD
        refine rw_top (y := (nI ((pf_tt (pf_un n r) n).2))) (by rw [hw, (pu_tw hn0 hn hr0).2]) ?_
        refine lv_icmp_eq (tgt := 291) hx hb d_L_law_250 (by decide) (fun _ => ?_) (fun q => absurd rfl q)
        refine W.widen (k := 7 + 18 * (k + 1)) (n := 47 + 36 * (k + 1)) (by omega) (by omega) ?_
        exact kont H locs ls ⟨n, r, fa, ea, pa, qa, la, ff, fe, fp, u2.1, u2.2, ⟨hn0, hn, hr0⟩, hff, hfp, hP.sub [0, 1, 2, 3, 4, 5, 6] rfl, hD.sub [0, 1, 2, 3, 4, 5, 6] (by decide) rfl, hS⟩ (lv_sub hl [0, 1, 2, 3] rfl)
      · refine lv_tableIn (off := 223) (tgt := 255) hx hb d_L_law_32 (by decide) (by decide) (by decide) (by decide) ?_
        refine lv_aload_n hx hb d_L_law_255 rfl (lv_at hl 1 rfl) ?_
        refine cl_i (D := D) (cA := cA) (wc := [(h, .inr (0, [.ref fa, .ref ea, .int (nI n), .int (nI r)])), (fa, .inl (cA, 8, .inl ff)), (ea, .inl (cA, 7, .inl fe))]) (wr := [(hm, .inr (2, [.int (nI n), .ref pa, .ref qa, .ref la])), (pa, .inl (cA, 8, .inl fp)), (qa, .inl (cA, 8, .inl fq)), (la, .inl (cA, 8, .inl fl))]) (w1 := fun ge => [(h, .inr (0, [.ref fa, .ref ea, .int (nI n), .int (nI r)])), (fa, .inl (cA, 8, .inl ff)), (ea, .inl (cA, 7, .inl ge))]) (rn_V (As := []) (rest := []) ⟨hx, hb, hml, hown, ht⟩ (c_X_longest l D cA H.size h fa ea ff fe n r hn0 hn hr0 hff) mb_X_longest tm_X_longest ts_X_longest tl_L_54 rfl rfl ⟨Nat.le_of_ble_eq_true rfl, Nat.le_of_ble_eq_true rfl⟩ (pr_V (q0 := 0) (ci := 0) (pr_Z hP hK hD [0, 1, 2] rfl (by decide) rfl) hP hK rfl rfl rfl) rfl hl.1 rfl (Nat.le_of_ble_eq_true rfl) d_L_law_256 ⟨by show _ ≤ 858104; omega, by show _ ≤ 6527936; omega⟩) hP hD hS hA [0, 1, 2] [3, 4, 5, 6] rfl rfl (by decide) (by decide) (fun r_ ge H locs hw hP hD hS => ?_)
        have hP : va_P D classes [(hm, .inr (2, [.int (nI n), .ref pa, .ref qa, .ref la])), (pa, .inl (cA, 8, .inl fp)), (qa, .inl (cA, 8, .inl fq)), (la, .inl (cA, 8, .inl fl)), (h, .inr (0, [.ref fa, .ref ea, .int (nI n), .int (nI r)])), (fa, .inl (cA, 8, .inl ff)), (ea, .inl (cA, 7, .inl ge))] H := hP
        have hD : va_D (fun q : Nat => s.heap.size ≤ q) [(hm, .inr (2, [.int (nI n), .ref pa, .ref qa, .ref la])), (pa, .inl (cA, 8, .inl fp)), (qa, .inl (cA, 8, .inl fq)), (la, .inl (cA, 8, .inl fl)), (h, .inr (0, [.ref fa, .ref ea, .int (nI n), .int (nI r)])), (fa, .inl (cA, 8, .inl ff)), (ea, .inl (cA, 7, .inl ge))] := hD
        refine rw_top (y := (nI ((pf_lt (pf_un n r) n).2))) hw ?_
        refine lv_aload_n hx hb d_L_law_259 rfl (lv_at hl 2 rfl) ?_
        refine rc_V (As := []) (rest := [.int (nI ((pf_lt (pf_un n r) n).2))]) ⟨hx, hb, hml, hown, ht⟩ (c_M_longest l D cA hm pa (.ref qa) (.ref la) fp (pf_dg (pf_un n r)) n hn0 hn (fun k => pf_dg_lt _ _) hfp) mb_M_longest tm_M_longest ts_M_longest tl_L_57 rfl rfl ⟨Nat.le_of_ble_eq_true rfl, Nat.le_of_ble_eq_true rfl⟩ (pr_V (q0 := 0) (ci := 2) (pr_R hP hK [0, 1] rfl) hP hK rfl rfl rfl) rfl hl.1 rfl (Nat.le_of_ble_eq_true rfl) d_L_law_260 ⟨by show _ ≤ 858104; omega, by show _ ≤ 6527936; omega⟩ ?_
        refine rw_top (y := (nI ((pf_lt (pf_un n r) n).2))) (by rw [pu_long hn0 hn hr0]) ?_
        refine lv_icmp_eq (tgt := 291) hx hb d_L_law_263 (by decide) (fun _ => ?_) (fun q => absurd rfl q)
        refine W.widen (k := 7 + 18 * (k + 1)) (n := 47 + 36 * (k + 1)) (by omega) (by omega) ?_
        exact kont H locs ls ⟨n, r, fa, ea, pa, qa, la, ff, ge, fp, fq, fl, ⟨hn0, hn, hr0⟩, hff, hfp, hP.sub [4, 5, 6, 0, 1, 2, 3] rfl, hD.sub [4, 5, 6, 0, 1, 2, 3] (by decide) rfl, hS⟩ (lv_sub hl [0, 1, 2, 3] rfl)
      · refine lv_tableIn (off := 236) (tgt := 268) hx hb d_L_law_32 (by decide) (by decide) (by decide) (by decide) ?_
        refine lv_aload_n hx hb d_L_law_268 rfl (lv_at hl 1 rfl) ?_
        refine lv_aload_n hx hb d_L_law_269 rfl (lv_at hl 0 rfl) ?_
        refine lv_iload_n hx hb d_L_law_270 rfl (lv_at hl 3 rfl) ?_
        refine lv_iconst (v := (nI 1)) hx hb d_L_law_271 (by decide) ?_
        refine rw_iadd (r := (3 * k) + 1) hx hb d_L_law_272 rfl ?_
        refine rw_sld (k := (3 * k) + 1) hx hb hX hbl hbA hS (by omega) (by omega) d_L_law_273 ?_
        refine cl_i (D := D) (cA := cA) (wc := []) (wr := [(h, .inr (0, [.ref fa, .ref ea, .int (nI n), .int (nI r)])), (fa, .inl (cA, 8, .inl ff)), (ea, .inl (cA, 7, .inl fe)), (hm, .inr (2, [.int (nI n), .ref pa, .ref qa, .ref la])), (pa, .inl (cA, 8, .inl fp)), (qa, .inl (cA, 8, .inl fq)), (la, .inl (cA, 8, .inl fl))]) (w1 := fun _ => []) (rn_V (As := [.int (xs ((3 * k) + 1))]) (rest := []) ⟨hx, hb, hml, hown, ht⟩ (c_X_powers l D cA H.size h fa (.ref ea) ff (xs (3 * k + 1)) n r hn0 hn hr0 hff) mb_X_powers tm_X_powers ts_X_powers tl_L_58 rfl rfl ⟨Nat.le_of_ble_eq_true rfl, Nat.le_of_ble_eq_true rfl⟩ (pr_V (q0 := 0) (ci := 0) (pr_M hP hK [0, 1] rfl) hP hK rfl rfl rfl) rfl hl.1 rfl (Nat.le_of_ble_eq_true rfl) d_L_law_274 ⟨by show _ ≤ 858104; omega, by show _ ≤ 6527936; omega⟩) hP hD hS hA [] [0, 1, 2, 3, 4, 5, 6] rfl rfl (by decide) (by decide) (fun r_ _u H locs hw hP hD hS => ?_)
        have hP : va_P D classes [(h, .inr (0, [.ref fa, .ref ea, .int (nI n), .int (nI r)])), (fa, .inl (cA, 8, .inl ff)), (ea, .inl (cA, 7, .inl fe)), (hm, .inr (2, [.int (nI n), .ref pa, .ref qa, .ref la])), (pa, .inl (cA, 8, .inl fp)), (qa, .inl (cA, 8, .inl fq)), (la, .inl (cA, 8, .inl fl))] H := hP
        have hD : va_D (fun q : Nat => s.heap.size ≤ q) [(h, .inr (0, [.ref fa, .ref ea, .int (nI n), .int (nI r)])), (fa, .inl (cA, 8, .inl ff)), (ea, .inl (cA, 7, .inl fe)), (hm, .inr (2, [.int (nI n), .ref pa, .ref qa, .ref la])), (pa, .inl (cA, 8, .inl fp)), (qa, .inl (cA, 8, .inl fq)), (la, .inl (cA, 8, .inl fl))] := hD
        refine rw_top (y := (nI (pf_pk (pf_it (pf_dg (pf_un n r)) (zn_m (xs (3 * k + 1)))) n 0))) (by rw [hw, pu_pow hn0 hn hr0 (zn_mlt (xs (3 * k + 1)))]) ?_
        refine lv_aload_n hx hb d_L_law_277 rfl (lv_at hl 2 rfl) ?_
        refine lv_aload_n hx hb d_L_law_278 rfl (lv_at hl 0 rfl) ?_
        refine lv_iload_n hx hb d_L_law_279 rfl (lv_at hl 3 rfl) ?_
        refine lv_iconst (v := (nI 1)) hx hb d_L_law_280 (by decide) ?_
        refine rw_iadd (r := (3 * k) + 1) hx hb d_L_law_281 rfl ?_
        refine rw_sld (k := (3 * k) + 1) hx hb hX hbl hbA hS (by omega) (by omega) d_L_law_282 ?_
        refine cl_i (D := D) (cA := cA) (wc := [(hm, .inr (2, [.int (nI n), .ref pa, .ref qa, .ref la])), (pa, .inl (cA, 8, .inl fp)), (qa, .inl (cA, 8, .inl fq)), (la, .inl (cA, 8, .inl fl))]) (wr := [(h, .inr (0, [.ref fa, .ref ea, .int (nI n), .int (nI r)])), (fa, .inl (cA, 8, .inl ff)), (ea, .inl (cA, 7, .inl fe))]) (w1 := fun (u2 : (Nat → Int32) × (Nat → Int32)) => [(hm, .inr (2, [.int (nI n), .ref pa, .ref qa, .ref la])), (pa, .inl (cA, 8, .inl fp)), (qa, .inl (cA, 8, .inl u2.1)), (la, .inl (cA, 8, .inl u2.2))]) (rn_V (As := [.int (xs ((3 * k) + 1))]) (rest := [.int (nI (pf_pk (pf_it (pf_dg (pf_un n r)) (zn_m (xs (3 * k + 1)))) n 0))]) ⟨hx, hb, hml, hown, ht⟩ (c_M_powers l D cA H.size hm pa qa la fp fq fl (pf_dg (pf_un n r)) (xs (3 * k + 1)) n hn0 hn (fun k => pf_dg_lt _ _) (fun k hk => pu_dgn hn0 hn hr0 hk) hfp) mb_M_powers tm_M_powers ts_M_powers tl_L_61 rfl rfl ⟨Nat.le_of_ble_eq_true rfl, Nat.le_of_ble_eq_true rfl⟩ (pr_V (q0 := 3) (ci := 2) (pr_Z hP hK hD [3, 4, 5, 6] rfl (by decide) rfl) hP hK rfl rfl rfl) rfl hl.1 rfl (Nat.le_of_ble_eq_true rfl) d_L_law_283 ⟨by show _ ≤ 858104; omega, by show _ ≤ 6527936; omega⟩) hP hD hS hA [3, 4, 5, 6] [0, 1, 2] rfl rfl (by decide) (by decide) (fun r_ u2 H locs hw hP hD hS => ?_)
        have hP : va_P D classes [(h, .inr (0, [.ref fa, .ref ea, .int (nI n), .int (nI r)])), (fa, .inl (cA, 8, .inl ff)), (ea, .inl (cA, 7, .inl fe)), (hm, .inr (2, [.int (nI n), .ref pa, .ref qa, .ref la])), (pa, .inl (cA, 8, .inl fp)), (qa, .inl (cA, 8, .inl u2.1)), (la, .inl (cA, 8, .inl u2.2))] H := hP
        have hD : va_D (fun q : Nat => s.heap.size ≤ q) [(h, .inr (0, [.ref fa, .ref ea, .int (nI n), .int (nI r)])), (fa, .inl (cA, 8, .inl ff)), (ea, .inl (cA, 7, .inl fe)), (hm, .inr (2, [.int (nI n), .ref pa, .ref qa, .ref la])), (pa, .inl (cA, 8, .inl fp)), (qa, .inl (cA, 8, .inl u2.1)), (la, .inl (cA, 8, .inl u2.2))] := hD
        refine rw_top (y := (nI (pf_pk (pf_it (pf_dg (pf_un n r)) (zn_m (xs (3 * k + 1)))) n 0))) hw ?_
        refine lv_icmp_eq (tgt := 291) hx hb d_L_law_286 (by decide) (fun _ => ?_) (fun q => absurd rfl q)
        refine W.widen (k := 7 + 18 * (k + 1)) (n := 47 + 36 * (k + 1)) (by omega) (by omega) ?_
        exact kont H locs ls ⟨n, r, fa, ea, pa, qa, la, ff, fe, fp, u2.1, u2.2, ⟨hn0, hn, hr0⟩, hff, hfp, hP.sub [0, 1, 2, 3, 4, 5, 6] rfl, hD.sub [0, 1, 2, 3, 4, 5, 6] (by decide) rfl, hS⟩ (lv_sub hl [0, 1, 2, 3] rfl)
      · refine lv_tableOut (tgt := 291) hx hb d_L_law_32 (Or.inr (by rw [nI_toInt (by omega)]; omega)) (by decide) ?_
        refine W.widen (k := 7 + 18 * (k + 1)) (n := 47 + 36 * (k + 1)) (by omega) (by omega) ?_
        exact kont H locs ls ⟨n, r, fa, ea, pa, qa, la, ff, fe, fp, fq, fl, ⟨hn0, hn, hr0⟩, hff, hfp, hP.sub [0, 1, 2, 3, 4, 5, 6] rfl, hD.sub [0, 1, 2, 3, 4, 5, 6] (by decide) rfl, hS⟩ (lv_sub hl [0, 1, 2, 3] rfl)
end
section
/-! the law from its entry, and the claim -/
set_option maxHeartbeats 4000000 in
set_option maxRecDepth 100000 in
/-- THE LAW, from its entry -/
theorem whole_start {p : Program} {e : Env} {s : State} {m : MethodId} {below : List Frame} {meth : Method} {c : Code} (l : Launch) {b L : Nat} {xs : Nat → Int32} (hL : L ≤ 1536) (C0 : lw_At p s m meth c b L xs) : W p l e room_1 s m #[Value.ref b] below meth c s.heap [] 0 0 (lw_Z below #[Value.ref b] s) (entryFrame m ([Value.ref b] : List Value).toArray 4) := by
  obtain ⟨hx, hb, hr, hml, hown, hts, hX, hbl, hlocks, hgv⟩ := id C0
  have hA : ∀ q : Nat, s.heap.size ≤ q → (fun q : Nat => s.heap.size ≤ q) q := fun _ h => h
  have ht : ∀ w ∈ lw_g, w.before #[Value.ref b] s = true := fun w hw => hts w (List.mem_filter.mp hw).1
  have hown : s.vm.findClass "RankDeskLaw" = some m.cls := hown
  obtain ⟨c0, iS0, hKn0⟩ := u_known (C := "RankDesk") (T := F_X) (N := 4) (n := 4) ht iw_X (ht _ ti_X)
  obtain ⟨c1, iS1, hKn1⟩ := u_known (C := "RankDesk$Packed") (T := F_K) (N := 2) (n := 2) ht iw_K (ht _ ti_K)
  obtain ⟨c2, iS2, hKn2⟩ := u_known (C := "RankDeskModel") (T := F_M) (N := 4) (n := 4) ht iw_M (ht _ ti_M)
  obtain ⟨D, hKc⟩ : ∃ (D : va_G), ∀ (k : Nat) (q : vw_C), classes[k]? = some q → u_Kn s q.1 q.2.1 q.2.2 (D.1 k) (D.2 k) := by
    refine ⟨(fun k => if k = 0 then c0 else if k = 1 then c1 else c2, fun k => if k = 0 then iS0 else if k = 1 then iS1 else iS2), ?_⟩
    intro k q hq
    match k, hq with
    | 0, hq => cases hq; exact hKn0
    | 1, hq => cases hq; exact hKn1
    | 2, hq => cases hq; exact hKn2
    | k + 3, hq => simp [classes] at hq
  obtain ⟨cA, kA, comp, hfind, hkA, hkind⟩ := Cond.arrayClass_spec (ht _ ta_int)
  have hK : va_K D classes [(cA, .int)] s := by
    refine ⟨hKc, fun k q hq => ?_⟩
    match k, hq with
    | 0, hq => cases hq; exact ⟨fun n z => ⟨fun k h => (by cases h), kA, hkA, comp, hkind⟩, hfind⟩
    | k + 1, hq => simp at hq
  have hS : va_S (fun q : Nat => s.heap.size ≤ q) s.heap s.heap [] := va_S.rf
  have hP : va_P D classes [] s.heap := fun k q h => by simp at h
  have hD : va_D (fun q : Nat => s.heap.size ≤ q) [] := ⟨fun i j p q h => by simp at h, fun k q h => by simp at h⟩
  have hl := lv_entry ([.ref b]) (n := 4) (Nat.le_of_ble_eq_true rfl)
  rw [lg_entry_eq]
  generalize (lg_sl ([.ref b]) ++ List.replicate (4 - (lg_sl ([.ref b])).length) Slot.unset).toArray = ls at hl ⊢
  have hl : lv_has ls 4 [(0, .ref b)] := hl
  show W p l e room_1 s m #[Value.ref b] below meth c s.heap [] 0 0 (lw_Z below #[Value.ref b] s) (F0 m 0 ls [])
  refine va_new (ci := 0) (fs := [.null, .null, .int (nI 0), .int (nI 0)]) (C := "RankDesk") (T := F_X) (N := 4) hx hb ht iw_X ft_X fo_X hown (ht _ tk_L_7) (ht _ ti_X) (ht _ tn_X) hK hP hD hS hA rfl (fun j hj => by rcases (show j = 0 ∨ j = 1 ∨ j = 2 ∨ j = 3 by omega) with rfl | rfl | rfl | rfl <;> rfl) (Nat.le_of_ble_eq_true rfl) (Nat.le_of_ble_eq_true rfl) d_L_law_0 (fun h H hP hD hS => ?_)
  have hP : va_P D classes [(h, .inr (0, [.null, .null, .int (nI 0), .int (nI 0)]))] H := hP
  have hD : va_D (fun q : Nat => s.heap.size ≤ q) [(h, .inr (0, [.null, .null, .int (nI 0), .int (nI 0)]))] := hD
  refine W.widen (k := 1) (n := 4) (by omega) (by omega) ?_
  refine lv_dup hx hb d_L_law_3 rfl ?_
  refine cl_v (D := D) (cA := cA) (wc := [(h, .inr (0, [.null, .null, .int (nI 0), .int (nI 0)]))]) (wr := []) (w1 := fun (ux : Nat × Nat × (Nat → Int32)) => [(h, .inr (0, [.ref ux.1, .ref ux.2.1, .int (nI 4), .int (nI 0)])), (ux.1, .inl (cA, 8, .inl ux.2.2)), (ux.2.1, .inl (cA, 7, .inl (fun _ => 0)))]) (rn_I (As := []) (rest := [.ref h]) ⟨hx, hb, hml, hown, ht⟩ (c_X_init l D cA H.size h (.int (nI 0)) (.int (nI 0))) mb_X_init tm_X_init rfl tl_L_9 rfl rfl ⟨Nat.le_of_ble_eq_true rfl, Nat.le_of_ble_eq_true rfl⟩ (pr_Z hP hK hD [0] rfl (by decide) rfl) rfl hl.1 rfl (Nat.le_of_ble_eq_true rfl) d_L_law_4 ⟨Nat.le_of_ble_eq_true rfl, Nat.le_of_ble_eq_true rfl⟩) hP hD hS hA [0] [] rfl rfl (by decide) (by decide) (fun ux H locs hwx hP hD hS => ?_)
  have hP : va_P D classes [(h, .inr (0, [.ref ux.1, .ref ux.2.1, .int (nI 4), .int (nI 0)])), (ux.1, .inl (cA, 8, .inl ux.2.2)), (ux.2.1, .inl (cA, 7, .inl (fun _ => 0)))] H := hP
  have hD : va_D (fun q : Nat => s.heap.size ≤ q) [(h, .inr (0, [.ref ux.1, .ref ux.2.1, .int (nI 4), .int (nI 0)])), (ux.1, .inl (cA, 8, .inl ux.2.2)), (ux.2.1, .inl (cA, 7, .inl (fun _ => 0)))] := hD
  refine W.widen (k := 3) (n := 19) (by omega) (by omega) ?_
  refine lv_astore_n (lv' := [(1, .ref h), (0, .ref b)]) hx hb d_L_law_7 rfl hl (by decide) rfl (fun ls hl => ?_)
  refine va_new (ci := 2) (fs := [.int (nI 0), .null, .null, .null]) (C := "RankDeskModel") (T := F_M) (N := 4) hx hb ht iw_M ft_M fo_M hown (ht _ tk_L_10) (ht _ ti_M) (ht _ tn_M) hK hP hD hS hA rfl (fun j hj => by rcases (show j = 0 ∨ j = 1 ∨ j = 2 ∨ j = 3 by omega) with rfl | rfl | rfl | rfl <;> rfl) (Nat.le_of_ble_eq_true rfl) (Nat.le_of_ble_eq_true rfl) d_L_law_8 (fun hm H hP hD hS => ?_)
  have hP : va_P D classes [(h, .inr (0, [.ref ux.1, .ref ux.2.1, .int (nI 4), .int (nI 0)])), (ux.1, .inl (cA, 8, .inl ux.2.2)), (ux.2.1, .inl (cA, 7, .inl (fun _ => 0))), (hm, .inr (2, [.int (nI 0), .null, .null, .null]))] H := hP
  have hD : va_D (fun q : Nat => s.heap.size ≤ q) [(h, .inr (0, [.ref ux.1, .ref ux.2.1, .int (nI 4), .int (nI 0)])), (ux.1, .inl (cA, 8, .inl ux.2.2)), (ux.2.1, .inl (cA, 7, .inl (fun _ => 0))), (hm, .inr (2, [.int (nI 0), .null, .null, .null]))] := hD
  refine W.widen (k := 4) (n := 23) (by omega) (by omega) ?_
  refine lv_dup hx hb d_L_law_11 rfl ?_
  refine cl_v (D := D) (cA := cA) (wc := [(hm, .inr (2, [.int (nI 0), .null, .null, .null]))]) (wr := [(h, .inr (0, [.ref ux.1, .ref ux.2.1, .int (nI 4), .int (nI 0)])), (ux.1, .inl (cA, 8, .inl ux.2.2)), (ux.2.1, .inl (cA, 7, .inl (fun _ => 0)))]) (w1 := fun (um : Nat × Nat × Nat × (Nat → Int32)) => [(hm, .inr (2, [.int (nI 4), .ref um.1, .ref um.2.1, .ref um.2.2.1])), (um.1, .inl (cA, 8, .inl um.2.2.2)), (um.2.1, .inl (cA, 8, .inl (fun _ => 0))), (um.2.2.1, .inl (cA, 8, .inl (fun _ => 0)))]) (rn_I (As := []) (rest := [.ref hm]) ⟨hx, hb, hml, hown, ht⟩ (c_M_init l D cA H.size hm (.int (nI 0))) mb_M_init tm_M_init rfl tl_L_12 rfl rfl ⟨Nat.le_of_ble_eq_true rfl, Nat.le_of_ble_eq_true rfl⟩ (pr_Z hP hK hD [3] rfl (by decide) rfl) rfl hl.1 rfl (Nat.le_of_ble_eq_true rfl) d_L_law_12 ⟨Nat.le_of_ble_eq_true rfl, Nat.le_of_ble_eq_true rfl⟩) hP hD hS hA [3] [0, 1, 2] rfl rfl (by decide) (by decide) (fun um H locs hwm hP hD hS => ?_)
  have hP : va_P D classes [(h, .inr (0, [.ref ux.1, .ref ux.2.1, .int (nI 4), .int (nI 0)])), (ux.1, .inl (cA, 8, .inl ux.2.2)), (ux.2.1, .inl (cA, 7, .inl (fun _ => 0))), (hm, .inr (2, [.int (nI 4), .ref um.1, .ref um.2.1, .ref um.2.2.1])), (um.1, .inl (cA, 8, .inl um.2.2.2)), (um.2.1, .inl (cA, 8, .inl (fun _ => 0))), (um.2.2.1, .inl (cA, 8, .inl (fun _ => 0)))] H := hP
  have hD : va_D (fun q : Nat => s.heap.size ≤ q) [(h, .inr (0, [.ref ux.1, .ref ux.2.1, .int (nI 4), .int (nI 0)])), (ux.1, .inl (cA, 8, .inl ux.2.2)), (ux.2.1, .inl (cA, 7, .inl (fun _ => 0))), (hm, .inr (2, [.int (nI 4), .ref um.1, .ref um.2.1, .ref um.2.2.1])), (um.1, .inl (cA, 8, .inl um.2.2.2)), (um.2.1, .inl (cA, 8, .inl (fun _ => 0))), (um.2.2.1, .inl (cA, 8, .inl (fun _ => 0)))] := hD
  refine W.widen (k := 7) (n := 47) (by omega) (by omega) ?_
  refine lv_astore_n (lv' := [(2, .ref hm), (1, .ref h), (0, .ref b)]) hx hb d_L_law_15 rfl hl (by decide) rfl (fun ls hl => ?_)
  refine lv_iconst (v := (nI 0)) hx hb d_L_law_16 (by decide) ?_
  refine lv_istore_n (lv' := [(3, .int (nI 0)), (2, .ref hm), (1, .ref h), (0, .ref b)]) hx hb d_L_law_17 rfl hl (by decide) rfl (fun ls hl => ?_)
  refine W.widen (k := 7 + 18 * 0) (n := 47 + 36 * 0) (by omega) (by omega) ?_
  exact law_loop hL C0 hK h hm (L + 1) 0 H locs ls (by omega) (by omega) ⟨4, 0, ux.1, ux.2.1, um.1, um.2.1, um.2.2.1, ux.2.2, fun _ => 0, um.2.2.2, fun _ => 0, fun _ => 0, ⟨by omega, by omega, pf_fac_pos 4⟩, hwx, (fun k hk => by rw [hwm k (by omega), pu_id (by omega) (by omega) hk]), hP, hD, hS⟩ (lv_sub hl [3, 2, 1, 0] rfl)
-- ===== YOUR PART ENDS =====
set_option maxHeartbeats 4000000 in
theorem lw_walk (l : Launch) (b : Addr) (xs : List Int32) : MetFree l x (headSpec (Jvm.Cond.code x code maxLocals ret :: tables_1) room_1) (lw_P b xs) (fun _ _ _ _ _ => True) lw_Q := by
  refine MetFree.of_bodyS (code := code) (maxLocals := maxLocals) (ret := ret) (by decide) ?_ ?_
  · intro args s m h hn
    obtain ⟨meth, c, h1, h2, h3, h4, h5, h6, -, -⟩ := Cond.code_spec hn (atoms_spec (ws := Jvm.Cond.code x code maxLocals ret :: tables_1) h _ List.mem_cons_self)
    exact ⟨meth, c, h1, h2, h3, h4, h5, h6⟩
  · intro p e s m args below meth c s₁ B hml0 hP _
    obtain ⟨rfl, hx, hbd, hgv⟩ := hP
    obtain ⟨scr, harrAt, hlist, hof, hsmall⟩ := hx
    obtain ⟨hcb, hkn, -, -⟩ := State.arrayAt?_spec harrAt
    have hown : s.vm.findClass R_law = some m.cls := findClass_of_methodNamed B.named
    have hts0 : ∀ c ∈ (Jvm.Cond.code x code maxLocals ret :: tables_1), c.before #[Value.ref b] s = true := atoms_spec (ws := Jvm.Cond.code x code maxLocals ret :: tables_1) B.pre
    have hts : ∀ w ∈ lw_tbl, w.before #[Value.ref b] s = true := k2_hts_sels lw_privs (fun w hw => hts0 w (List.mem_cons_of_mem _ hw)) lw_privs_ok
    have hml : c.maxLocals = 4 := B.maxLocals_eq (hts0 _ List.mem_cons_self)
    have X₀ : Stand p l e room_1 s m #[Value.ref b] below meth c s₁ [] 0 0 := Stand.of_body B
    have hh0 : s₁.heap = s.heap := by rw [B.state]; rfl
    have hsz : scr.slots.size = xs.length := by rw [← Array.length_toList, hlist, List.length_map]
    have hval : ∀ j : Nat, j < xs.length → scr.slots[j]? = some (.int (xs.getD j 0)) := fun j hj => by
      rw [← Array.getElem?_toList, hlist]
      simp [hj]
    have hbl : b < s.heap.size := (Array.getElem?_eq_some_iff.mp hcb).1
    have hX : va_X b xs.length (fun j => xs.getD j 0) s s.heap := ⟨scr, hcb, hof, hkn, hsz, hval⟩
    have K : W p l e room_1 s m #[Value.ref b] below meth c s₁.heap [] 0 0 (lw_Z below #[Value.ref b] s) (entryFrame m ([Value.ref b] : List Value).toArray 4) := by
      rw [hh0]
      exact whole_start l hbd ⟨B.exec, B.bytes, B.returns, hml, hown, hts, hX, hbl, B.notSynchronized, hgv⟩
    obtain ⟨t, a1, o, b1, b2, b3⟩ := K s₁ rfl X₀
    exact ⟨t, o, a1, b1, b2, b3⟩
theorem lw_pre_spec {args : Array Value} {s : State} (h : (Jvm.Cond.and given_1 narrow_1).before args s = true) (hr : rest_1_c.before args s = true) : ∃ (b : Addr) (xs : List Int32), lw_P b xs args s := by
  have hs := flat_of_before _ h
  have hq := flat_of_before _ hr
  have hc : (Cond.count 1).before args s = true := hs _ (by decide +kernel)
  have harr : (Cond.arrayOf (.arg 0) .int).before args s = true := hs _ (by decide +kernel)
  have hle : (Cond.le (.length (.arg 0)) (.int 1536)).before args s = true := hs _ (by decide +kernel)
  have hlen : (Cond.isInt (.length (.arg 0))).before args s = true := hq _ (by decide +kernel)
  have hall : (Cond.all (.arg 0) (.isInt (.elem (.arg 0) (.index 0)))).before args s = true := hq _ (by decide +kernel)
  obtain ⟨b, xs, hb, hx⟩ := State.ints_of_pre rfl harr hlen hall
  have hsm : xs.length < 2 ^ 31 := hx.choose_spec.2.2.2
  have hev : (Term.length (.arg 0)).eval args s none [] s = some (.int xs.length.toInt32) := hx.length_eval hb
  have hv := Cond.le_ints hev (show (Term.int 1536).eval args s none [] s = some (.int 1536) from rfl)
  have hd : xs.length.toInt32 ≤ 1536 := by
    simpa [Cond.before, Cond.holds, hv] using hle
  have hN : xs.length ≤ 1536 := (Int32.ofNat_le_ofNat hsm (by decide)).mp (show Int32.ofNat xs.length ≤ Int32.ofNat 1536 from hd)
  exact ⟨b, xs, Cond.one_arg hc (show args[0]? = some (.ref b) from hb), hx, hN, h⟩
theorem lw_comes (l : Launch) : Comes l x (Jvm.Cond.code x code maxLocals ret :: tables_1) room_1 (fun tb e args s => Calls_1 tb e args s ∧ rest_1 tb e args s ∧ Pre_1 tb e args s)
    (fun _ _ args s o t => lw_Q args s o t) := by
  intro p e ha hc hk s m args below hf hfit hheap happ hpre
  obtain ⟨b, xs, hP⟩ := lw_pre_spec hpre.2.2 hpre.2.1
  obtain ⟨k, o, h1, h2, h3, hQ⟩ := lw_walk l b xs p e ha hc hk s m args below hf ((Spec.applies_iff_loose hf).mp happ).1 hP trivial
  exact ⟨k, o, h1, h2, h3, hQ⟩
theorem lw_frame {s t : State} {o : Outcome} {args : Array Value} (h : Framed s o t [] 858104 6527936) :
    Framed s o t (fieldLocs frame_1_writes args s ++ arrayLocs frame_1_arrays args s ++ staticLocs frame_1_statics s) 858104 6527936 := h
theorem lw_limb (L : Cond) (hL : ∀ (args : Array Value) (s t : State), L.after args s (.returned (some (.int 1))) t = true) :
    ArmFor flags0 classFile x code maxLocals ret World_1 tables_1 room_1 Calls_1 rest_1 Pre_1
      (fun tb e a s o t => postC L tb e a s o t ∧ Framed s o t (fieldLocs frame_1_writes a s ++ arrayLocs frame_1_arrays a s ++ staticLocs frame_1_statics s) 858104 6527936) := by
  intro l _ _ _ p e ha hc hk s m args below hf hfit hheap happ hpre
  obtain ⟨k, o, h1, h2, h3, rfl, hF⟩ := lw_comes l p e ha hc hk s m args below hf hfit hheap happ hpre
  exact ⟨k, _, h1, h2, h3, hL args s _, lw_frame hF⟩
theorem i_vc : Claimed_1_1 ∧ Claimed_1_2 := ⟨lw_limb limb_1_1 (fun args s t => by simp [limb_1_1, Cond.after, Cond.holds, Cond.value]), lw_limb limb_1_2 (fun args s t => Cond.after_iff.mpr (by
  first | (rw [show limb_1_2 = Cond.eq .result (.int 1) from rfl, Cond.eq_ints (x := 1) (y := 1) rfl rfl]; simp; done) | (simp [limb_1_2, Cond.value, Term.eval]; done)))⟩
end
