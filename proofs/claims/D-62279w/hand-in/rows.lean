section
/-! PURE PICTURE of the paragraph breaker: the shared data (width, extra, count, widths, penalties), what each method answers. No program in sight. -/
/-- an Int as a Java int -/
def iZ (z : Int) : Int32 := Int32.ofInt z
def Rng (z : Int) : Prop := -2147483648 ≤ z ∧ z < 2147483648
/-- one place of a picture changed -/
def updZ (f : Nat → Int) (k : Nat) (x : Int) : Nat → Int := fun j => if j = k then x else f j
/-- the paragraph: width, extra, count, widths, penalties -/
def Par : Type := Int × Int × Nat × (Nat → Int) × (Nat → Int)
def Par.of (w e : Int) (c : Nat) (W P : Nat → Int) : Par := (w, e, c, W, P)
def Par.w (s : Par) : Int := s.1
def Par.e (s : Par) : Int := s.2.1
def Par.c (s : Par) : Nat := s.2.2.1
def Par.W (s : Par) : Nat → Int := s.2.2.2.1
def Par.P (s : Par) : Nat → Int := s.2.2.2.2
def pb_Ok (s : Par) : Prop := (5 ≤ s.w ∧ s.w ≤ 60) ∧ (0 ≤ s.e ∧ s.e ≤ 100) ∧ s.c ≤ 10 ∧ (∀ i, 0 ≤ s.W i ∧ s.W i ≤ 12) ∧ (∀ i, -40 ≤ s.P i ∧ s.P i ≤ 40)
/-- the component's own tables: barred, onward, upTo, best, ways -/
def Pri : Type := Int × (Nat → Int) × (Nat → Int) × (Nat → Int) × (Nat → Int)
def Pri.of (b : Int) (O U B Y : Nat → Int) : Pri := (b, O, U, B, Y)
def Pri.b (s : Pri) : Int := s.1
def Pri.O (s : Pri) : Nat → Int := s.2.1
def Pri.U (s : Pri) : Nat → Int := s.2.2.1
def Pri.B (s : Pri) : Nat → Int := s.2.2.2.1
def Pri.Y (s : Pri) : Nat → Int := s.2.2.2.2
/-- W p + .. + W (p + k - 1) -/
def pb_sm (W : Nat → Int) (p : Nat) : Nat → Int
  | 0 => 0
  | k + 1 => pb_sm W p k + W (p + k)
def pb_len (s : Par) (p q : Nat) : Int := ((q : Int) - p - 1) * 2 + pb_sm s.W p (q - p)
def pb_pen (s : Par) (p : Nat) : Bool := decide (0 < p) && decide (0 < s.P (p - 1))
/-- lineCost -/
def pb_lc (s : Par) (b : Int) (p q : Nat) : Int :=
  if s.w - pb_len s p q < (p : Int) + 1 - q ∨ (q < s.c ∧ (q : Int) - 1 = b) then 1000000
  else if q = s.c then (if 0 ≤ s.w - pb_len s p q then 0 else 3 * (s.w - pb_len s p q) * (s.w - pb_len s p q))
  else (if 0 ≤ s.w - pb_len s p q then (s.w - pb_len s p q) * (s.w - pb_len s p q) else 3 * (s.w - pb_len s p q) * (s.w - pb_len s p q)) + s.P (q - 1) + (if pb_pen s p = true ∧ pb_pen s q = true then s.e else 0)
/-- the least of L q + R q for q = p + 1 .. p + k -/
def pb_lo (L R : Nat → Int) (p : Nat) : Nat → Int
  | 0 => 1000000
  | k + 1 => if L (p + k + 1) < 1000000 ∧ R (p + k + 1) < 1000000 ∧ L (p + k + 1) + R (p + k + 1) < pb_lo L R p k then L (p + k + 1) + R (p + k + 1) else pb_lo L R p k
def pb_on (L : Nat → Nat → Int) (c : Nat) : Nat → Nat → Int
  | 0, p => if p = c then 0 else 1000000
  | n + 1, p => pb_lo (L p) (pb_on L c n) p (c - p)
/-- findBest, k steps: best and ways of p -/
def pb_fb (L B Y : Nat → Int) (p : Nat) (b0 y0 : Int) : Nat → Int × Int
  | 0 => (b0, y0)
  | k + 1 => if L (p + k + 1) < 1000000 ∧ B (p + k + 1) < 1000000 then
      (if L (p + k + 1) + B (p + k + 1) < (pb_fb L B Y p b0 y0 k).1 then (L (p + k + 1) + B (p + k + 1), Y (p + k + 1))
       else ((pb_fb L B Y p b0 y0 k).1, (pb_fb L B Y p b0 y0 k).2 + (if L (p + k + 1) + B (p + k + 1) = (pb_fb L B Y p b0 y0 k).1 then Y (p + k + 1) else 0)))
    else pb_fb L B Y p b0 y0 k
/-- learn's last loop, k steps -/
def pb_bw (L : Nat → Nat → Int) (c : Nat) : Nat → (Nat → Int) × (Nat → Int)
  | 0 => (fun p => if p = c then 0 else 1000000, fun p => if p = c then 1 else 0)
  | k + 1 => (updZ (pb_bw L c k).1 (c - 1 - k) (pb_fb (L (c - 1 - k)) (pb_bw L c k).1 (pb_bw L c k).2 (c - 1 - k) ((pb_bw L c k).1 (c - 1 - k)) ((pb_bw L c k).2 (c - 1 - k)) (c - (c - 1 - k))).1,
      updZ (pb_bw L c k).2 (c - 1 - k) (pb_fb (L (c - 1 - k)) (pb_bw L c k).1 (pb_bw L c k).2 (c - 1 - k) ((pb_bw L c k).1 (c - 1 - k)) ((pb_bw L c k).2 (c - 1 - k)) (c - (c - 1 - k))).2)
def pb_be (L : Nat → Nat → Int) (c p : Nat) : Int := (pb_bw L c c).1 p
def pb_wy (L : Nat → Nat → Int) (c p : Nat) : Int := (pb_bw L c c).2 p
/-- fewestLines: from n on, k more -/
def pb_fw (O : Nat → Int) (b : Int) : Nat → Nat → Int
  | 0, _ => -1
  | k + 1, n => if O n < 1000000 ∧ O n = b then (n : Int) else pb_fw O b k (n + 1)
/-- firstEnd: from q on, k more -/
def pb_fe (L R : Nat → Int) (v : Int) (c : Nat) : Nat → Nat → Nat
  | 0, _ => c
  | k + 1, q => if L q < 1000000 ∧ R q < 1000000 ∧ L q + R q = v then q else pb_fe L R v c k (q + 1)
/-- findUpTo's inner loop for q: p = 0 .. k - 1 -/
def pb_ui (L : Nat → Nat → Int) (U : Nat → Int) (q : Nat) : Nat → Int
  | 0 => 1000000
  | k + 1 => if L k q < 1000000 ∧ U k < 1000000 ∧ U k + L k q < pb_ui L U q k then U k + L k q else pb_ui L U q k
/-- findUpTo, q = 1 .. k -/
def pb_ut (L : Nat → Nat → Int) : Nat → Nat → Int
  | 0 => fun q => if q = 0 then 0 else 1000000
  | k + 1 => updZ (pb_ut L k) (k + 1) (pb_ui L (pb_ut L k) (k + 1) (k + 1))
def pb_up (L : Nat → Nat → Int) (q : Nat) : Int := pb_ut L q q
abbrev pb_L (s : Par) : Nat → Nat → Int := pb_lc s (-1)
def pb_FW (s : Par) : Int := pb_fw (fun n => pb_on (pb_L s) s.c n 0) (pb_be (pb_L s) s.c 0) 11 0
def pb_FE (s : Par) (n p : Nat) : Nat := pb_fe (pb_L s p) (pb_on (pb_L s) s.c (n - 1)) (pb_on (pb_L s) s.c n p) s.c (s.c - p) (p + 1)
/-- where the first i lines end, when n lines are to come -/
def pb_ED (s : Par) (n : Nat) : Nat → Nat
  | 0 => 0
  | i + 1 => pb_FE s (n - i) (pb_ED s n i)
def pb_EL (s : Par) (k : Int) : Int := if k < 0 ∨ pb_FW s ≤ k then -1 else (pb_ED s (pb_FW s).toNat (k.toNat + 1) : Nat)
/-! what the component answers -/
def pb_ok (w p : Int) : Prop := 1 ≤ w ∧ w ≤ 12 ∧ -40 ≤ p ∧ p ≤ 40
def pb_cap (lo hi x : Int) : Int := if x < lo then lo else if hi < x then hi else x
def pb_new (w e : Int) : Par := Par.of (pb_cap 5 60 w) (pb_cap 0 100 e) 0 (fun _ => 0) (fun _ => 0)
def pb_far (x : Int) : Int := if x < 1000000 then x else -1000000
def xa_cost (s : Par) : Int := pb_far (pb_be (pb_L s) s.c 0)
def xa_lines (s : Par) : Int := if pb_FW s < 0 then 0 else pb_FW s
def xa_lof (s : Par) (i : Int) : Nat → Nat → Int
  | 0, _ => -1
  | m + 1, k => if i < pb_EL s k then (k : Int) else xa_lof s i m (k + 1)
def xa_lineOf (s : Par) (i : Int) : Int := if i < 0 ∨ (s.c : Int) ≤ i then -1 else xa_lof s i (xa_lines s).toNat 0
def xa_endOf (s : Par) (k : Int) : Int := if pb_EL s k < 0 then -1 else pb_EL s k - 1
def xa_lengthOf (s : Par) (k : Int) : Int := if pb_EL s k < 0 then -1 else pb_len s (if 0 < k then pb_EL s (k - 1) else 0).toNat (pb_EL s k).toNat
def xa_costWith (s : Par) (n : Int) : Int := if n < 0 ∨ 10 < n then -1000000 else pb_far (pb_on (pb_L s) s.c n.toNat 0)
def xa_costBreaking (s : Par) (i : Int) : Int := if i < 0 ∨ (s.c : Int) - 1 ≤ i then -1000000 else
  if pb_up (pb_L s) (i.toNat + 1) < 1000000 ∧ pb_be (pb_L s) s.c (i.toNat + 1) < 1000000 then pb_up (pb_L s) (i.toNat + 1) + pb_be (pb_L s) s.c (i.toNat + 1) else -1000000
def xa_costKeeping (s : Par) (i : Int) : Int := if i < 0 ∨ (s.c : Int) - 1 ≤ i then -1000000 else pb_far (pb_be (pb_lc s i) s.c 0)
def xa_choices (s : Par) : Int := pb_wy (pb_L s) s.c 0
/-! what the reference answers -/
def pb_bt (set k : Nat) : Nat := set / 2 ^ k % 2
def ma_bad (s : Par) (i j : Nat) : Int :=
  if s.w - pb_len s i (j + 1) < (i : Int) - j then -1
  else if s.w - pb_len s i (j + 1) < 0 then (s.w - pb_len s i (j + 1)) * (s.w - pb_len s i (j + 1)) * 3
  else if j + 1 = s.c then 0 else (s.w - pb_len s i (j + 1)) * (s.w - pb_len s i (j + 1))
/-- costOf's loop: cost, begin, high after k steps; none: a line does not fit -/
def ma_here (s : Par) (k : Nat) : Bool := decide (k + 1 < s.c) && decide (0 < s.P k)
def ma_st (s : Par) (set k : Nat) (r : Int × Nat × Bool) : Option (Int × Nat × Bool) :=
  if pb_bt set k = 1 ∨ k + 1 = s.c then
    (if ma_bad s r.2.1 k < 0 then none else some (r.1 + ma_bad s r.2.1 k + (if k + 1 < s.c then s.P k else 0) + (if r.2.2 = true ∧ ma_here s k = true then s.e else 0), k + 1, ma_here s k))
  else some r
def ma_cs (s : Par) (set : Nat) : Nat → Option (Int × Nat × Bool)
  | 0 => some (0, 0, false)
  | k + 1 => (ma_cs s set k).bind (ma_st s set k)
def ma_co (s : Par) (set : Nat) : Int := match ma_cs s set s.c with
  | none => -1000000
  | some r => r.1
def ma_sets (s : Par) : Nat := if s.c = 0 then 1 else 2 ^ (s.c - 1)
def ma_pop (set : Nat) : Nat → Nat
  | 0 => 0
  | k + 1 => ma_pop set k + pb_bt set k
def ma_cn (s : Par) (set : Nat) : Nat := (if 0 < s.c then 1 else 0) + ma_pop set 10
def ma_bk (a b : Nat) : Nat → Nat → Bool
  | 0, _ => false
  | m + 1, k => if pb_bt a k = pb_bt b k then ma_bk a b m (k + 1) else decide (pb_bt a k = 1)
def ma_bf (s : Par) (a b : Nat) : Bool := if ma_cn s a = ma_cn s b then ma_bk a b 10 0 else decide (ma_cn s a < ma_cn s b)
/-- best's loop over the sets that C takes: best and least after i sets -/
def ma_val (s : Par) (C : Nat → Bool) (i : Nat) : Int := if C i = true then ma_co s i else -1000000
def ma_bs (s : Par) (C : Nat → Bool) : Nat → Int × Int
  | 0 => (-1, 0)
  | i + 1 => if ma_val s C i ≠ -1000000 ∧ ((ma_bs s C i).1 < 0 ∨ ma_val s C i < (ma_bs s C i).2 ∨ (ma_val s C i = (ma_bs s C i).2 ∧ ma_bf s i (ma_bs s C i).1.toNat = true)) then ((i : Int), ma_val s C i) else ma_bs s C i
def ma_best (s : Par) (C : Nat → Bool) : Int := (ma_bs s C (ma_sets s)).1
def ma_costB (s : Par) (C : Nat → Bool) : Int := if ma_best s C < 0 then -1000000 else ma_co s (ma_best s C).toNat
abbrev ma_all : Nat → Bool := fun _ => true
def ma_cost (s : Par) : Int := ma_costB s ma_all
def ma_lines (s : Par) : Int := if ma_best s ma_all < 0 then 0 else (ma_cn s (ma_best s ma_all).toNat : Nat)
def ma_lineOf (s : Par) (i : Int) : Int := if ma_best s ma_all < 0 ∨ i < 0 ∨ (s.c : Int) ≤ i then -1 else (ma_pop (ma_best s ma_all).toNat i.toNat : Nat)
def ma_eo (s : Par) (set : Nat) (k : Int) : Nat → Nat → Int → Int
  | 0, _, _ => -1
  | m + 1, i, n => if pb_bt set i = 1 ∨ i + 1 = s.c then (if n = k then (i : Int) else ma_eo s set k m (i + 1) (n + 1)) else ma_eo s set k m (i + 1) n
def ma_endOf (s : Par) (k : Int) : Int := if ma_best s ma_all < 0 then -1 else ma_eo s (ma_best s ma_all).toNat k s.c 0 0
def ma_lengthOf (s : Par) (k : Int) : Int := if ma_endOf s k < 0 then -1 else pb_len s (if 0 < k then ma_endOf s (k - 1) + 1 else 0).toNat ((ma_endOf s k).toNat + 1)
def ma_cwv (s : Par) (n : Int) (i : Nat) : Int := if (ma_cn s i : Int) = n then ma_co s i else -1000000
def ma_cw (s : Par) (n : Int) : Nat → Int
  | 0 => -1000000
  | i + 1 => if ma_cwv s n i ≠ -1000000 ∧ (ma_cw s n i = -1000000 ∨ ma_cwv s n i < ma_cw s n i) then ma_cwv s n i else ma_cw s n i
def ma_costWith (s : Par) (n : Int) : Int := ma_cw s n (ma_sets s)
def ma_costBreaking (s : Par) (i : Int) : Int := if i < 0 ∨ (s.c : Int) - 1 ≤ i then -1000000 else ma_costB s (fun set => decide (pb_bt set i.toNat = 1))
def ma_costKeeping (s : Par) (i : Int) : Int := if i < 0 ∨ (s.c : Int) - 1 ≤ i then -1000000 else ma_costB s (fun set => decide (pb_bt set i.toNat = 0))
def ma_ch (s : Par) (v : Int) : Nat → Int
  | 0 => 0
  | i + 1 => if ma_co s i = v then ma_ch s v i + 1 else ma_ch s v i
def ma_choices (s : Par) : Int := if ma_cost s = -1000000 then 0 else ma_ch s (ma_cost s) (ma_sets s)
end
section
/-! THE PLAIN LAW, 1: the tables that the component fills hold the least costs of paths -/
def th_Lb (L : Nat → Nat → Int) (c : Nat) : Prop := c ≤ 10 ∧ ∀ p q, p < q → q ≤ c → L p q = 1000000 ∨ (-40 ≤ L p q ∧ L p q ≤ 3740)
theorem th_lo_far (L R : Nat → Int) (p k : Nat) : pb_lo L R p k ≤ 1000000 := by
  induction k with
  | zero => simp [pb_lo]
  | succ k ih =>
    simp only [pb_lo]
    split <;> omega
theorem th_lo_le {L R : Nat → Int} {p k q : Nat} (h1 : p < q) (h2 : q ≤ p + k) (hL : L q < 1000000) (hR : R q < 1000000) : pb_lo L R p k ≤ L q + R q := by
  induction k with
  | zero => omega
  | succ k ih =>
    simp only [pb_lo]
    by_cases e : q = p + k + 1
    · subst e
      split <;> omega
    · have := ih (by omega)
      split <;> omega
theorem th_lo_at {L R : Nat → Int} {p k : Nat} (h : pb_lo L R p k < 1000000) : ∃ q, p < q ∧ q ≤ p + k ∧ L q < 1000000 ∧ R q < 1000000 ∧ pb_lo L R p k = L q + R q := by
  induction k with
  | zero => simp [pb_lo] at h
  | succ k ih =>
    by_cases hc : L (p + k + 1) < 1000000 ∧ R (p + k + 1) < 1000000 ∧ L (p + k + 1) + R (p + k + 1) < pb_lo L R p k
    · have e : pb_lo L R p (k + 1) = L (p + k + 1) + R (p + k + 1) := by simp only [pb_lo]; rw [if_pos hc]
      exact ⟨p + k + 1, by omega, by omega, hc.1, hc.2.1, e⟩
    · have e : pb_lo L R p (k + 1) = pb_lo L R p k := by simp only [pb_lo]; rw [if_neg hc]
      rw [e] at h
      obtain ⟨q, a, b, c, d, f⟩ := ih h
      exact ⟨q, a, by omega, c, d, by rw [e]; exact f⟩
/-- a path of n lines from p to the end c costs y -/
def th_PR (L : Nat → Nat → Int) (c : Nat) : Nat → Nat → Int → Prop
  | 0, p, y => p = c ∧ y = 0
  | n + 1, p, y => ∃ q, p < q ∧ q ≤ c ∧ L p q < 1000000 ∧ th_PR L c n q (y - L p q)
theorem th_PR_bd {L : Nat → Nat → Int} {c : Nat} (hL : th_Lb L c) : ∀ (n p : Nat) (y : Int), th_PR L c n p y → p + n ≤ c ∧ -40 * (n : Int) ≤ y ∧ y ≤ 3740 * (n : Int) := by
  intro n
  induction n with
  | zero =>
    intro p y h
    obtain ⟨h1, h2⟩ := h
    subst h1; subst h2
    simp
  | succ n ih =>
    intro p y h
    obtain ⟨q, h1, h2, h3, h4⟩ := h
    have := ih q _ h4
    rcases hL.2 p q h1 h2 with e | e <;> omega
theorem th_on_spec {L : Nat → Nat → Int} {c : Nat} (hL : th_Lb L c) : ∀ n, n ≤ 10 → ∀ p, (∀ y, th_PR L c n p y → pb_on L c n p ≤ y) ∧ (pb_on L c n p < 1000000 → th_PR L c n p (pb_on L c n p)) := by
  intro n
  induction n with
  | zero =>
    intro _ p
    by_cases h : p = c
    · have e : pb_on L c 0 p = 0 := by simp [pb_on, h]
      rw [e]
      refine ⟨fun y hy => ?_, fun _ => ⟨h, rfl⟩⟩
      have := hy.2
      omega
    · have e : pb_on L c 0 p = 1000000 := by simp [pb_on, h]
      rw [e]
      exact ⟨fun y hy => absurd hy.1 h, fun q => absurd q (by omega)⟩
  | succ n ih =>
    intro hn p
    have e : pb_on L c (n + 1) p = pb_lo (L p) (pb_on L c n) p (c - p) := by simp only [pb_on]
    rw [e]
    constructor
    · rintro y ⟨q, h1, h2, h3, h4⟩
      have hb := th_PR_bd hL n q _ h4
      have i1 := (ih (by omega) q).1 _ h4
      have hlc : -40 ≤ L p q := by rcases hL.2 p q h1 h2 with e | e <;> omega
      have := th_lo_le (L := L p) (R := pb_on L c n) (p := p) (k := c - p) h1 (by omega) h3 (by omega)
      omega
    · intro h
      obtain ⟨q, h1, h2, h3, h4, e2⟩ := th_lo_at h
      refine ⟨q, h1, by omega, h3, ?_⟩
      rw [e2, show L p q + pb_on L c n q - L p q = pb_on L c n q by omega]
      exact (ih (by omega) q).2 h4
theorem th_on_far (L : Nat → Nat → Int) (c n p : Nat) : pb_on L c n p ≤ 1000000 := by
  cases n with
  | zero => simp only [pb_on]; split <;> omega
  | succ n => simp only [pb_on]; exact th_lo_far _ _ _ _
theorem th_on_low {L : Nat → Nat → Int} {c : Nat} (hL : th_Lb L c) {n : Nat} (hn : n ≤ 10) (p : Nat) : -400 ≤ pb_on L c n p := by
  by_cases h : pb_on L c n p < 1000000
  · have := th_PR_bd hL _ _ _ ((th_on_spec hL n hn p).2 h)
    omega
  · omega
theorem th_fb_fst {L B Y : Nat → Int} {p : Nat} {y0 : Int} (k : Nat) : (pb_fb L B Y p 1000000 y0 k).1 = pb_lo L B p k := by
  induction k with
  | zero => rfl
  | succ k ih =>
    simp only [pb_fb, pb_lo]
    by_cases h1 : L (p + k + 1) < 1000000 ∧ B (p + k + 1) < 1000000
    · rw [if_pos h1]
      by_cases h2 : L (p + k + 1) + B (p + k + 1) < (pb_fb L B Y p 1000000 y0 k).1
      · rw [if_pos h2, if_pos ⟨h1.1, h1.2, by rw [← ih]; exact h2⟩]
      · have h3 : ¬ (L (p + k + 1) < 1000000 ∧ B (p + k + 1) < 1000000 ∧ L (p + k + 1) + B (p + k + 1) < pb_lo L B p k) := fun h => h2 (by rw [ih]; exact h.2.2)
        rw [if_neg h2, if_neg h3]
        exact ih
    · rw [if_neg h1, if_neg (fun h => h1 ⟨h.1, h.2.1⟩)]
      exact ih
theorem th_fb_congr {L B Y B' Y' : Nat → Int} {p : Nat} {b0 y0 : Int} (k : Nat) (hB : ∀ q, p < q → q ≤ p + k → B q = B' q) (hY : ∀ q, p < q → q ≤ p + k → Y q = Y' q) : pb_fb L B Y p b0 y0 k = pb_fb L B' Y' p b0 y0 k := by
  induction k with
  | zero => rfl
  | succ k ih =>
    simp only [pb_fb]
    rw [ih (fun q a b => hB q a (by omega)) (fun q a b => hY q a (by omega)), hB (p + k + 1) (by omega) (by omega), hY (p + k + 1) (by omega) (by omega)]
theorem th_bw_keep (L : Nat → Nat → Int) (c k : Nat) : ∀ d p, k + d ≤ c → c - k ≤ p → (pb_bw L c (k + d)).1 p = (pb_bw L c k).1 p ∧ (pb_bw L c (k + d)).2 p = (pb_bw L c k).2 p := by
  intro d
  induction d with
  | zero => intro p _ _; exact ⟨rfl, rfl⟩
  | succ d ih =>
    intro p h1 h2
    have hne : p ≠ c - 1 - (k + d) := by omega
    have i1 := ih p (by omega) h2
    rw [show k + (d + 1) = (k + d) + 1 by omega]
    simp only [pb_bw, updZ]
    rw [if_neg hne, if_neg hne]
    exact i1
theorem th_bw_low (L : Nat → Nat → Int) (c : Nat) : ∀ k p, p < c - k → (pb_bw L c k).1 p = 1000000 ∧ (pb_bw L c k).2 p = 0 := by
  intro k
  induction k with
  | zero =>
    intro p h
    simp only [pb_bw]
    rw [if_neg (by omega), if_neg (by omega)]
    exact ⟨rfl, rfl⟩
  | succ k ih =>
    intro p h
    have hne : p ≠ c - 1 - k := by omega
    simp only [pb_bw, updZ]
    rw [if_neg hne, if_neg hne]
    exact ih p (by omega)
theorem th_bw_fin (L : Nat → Nat → Int) (c k p : Nat) (hk : k ≤ c) (hp : c - k ≤ p) : (pb_bw L c k).1 p = pb_be L c p ∧ (pb_bw L c k).2 p = pb_wy L c p := by
  have h := th_bw_keep L c k (c - k) p (by omega) hp
  rw [show k + (c - k) = c by omega] at h
  exact ⟨h.1.symm, h.2.symm⟩
theorem th_be_c (L : Nat → Nat → Int) (c : Nat) : pb_be L c c = 0 ∧ pb_wy L c c = 1 := by
  have h := th_bw_fin L c 0 c (by omega) (by omega)
  rw [← h.1, ← h.2]
  simp [pb_bw]
theorem th_be_out (L : Nat → Nat → Int) (c p : Nat) (h : c < p) : pb_be L c p = 1000000 ∧ pb_wy L c p = 0 := by
  have h1 := th_bw_fin L c 0 p (by omega) (by omega)
  rw [← h1.1, ← h1.2]
  simp only [pb_bw]
  rw [if_neg (by omega), if_neg (by omega)]
  exact ⟨rfl, rfl⟩
theorem th_be_rec (L : Nat → Nat → Int) (c p : Nat) (hp : p < c) : pb_be L c p = (pb_fb (L p) (pb_be L c) (pb_wy L c) p 1000000 0 (c - p)).1 ∧ pb_wy L c p = (pb_fb (L p) (pb_be L c) (pb_wy L c) p 1000000 0 (c - p)).2 := by
  have h := th_bw_fin L c (c - 1 - p + 1) p (by omega) (by omega)
  have hk : c - 1 - (c - 1 - p) = p := by omega
  have hl := th_bw_low L c (c - 1 - p) p (by omega)
  have hc := th_fb_congr (L := L p) (B := (pb_bw L c (c - 1 - p)).1) (Y := (pb_bw L c (c - 1 - p)).2) (B' := pb_be L c) (Y' := pb_wy L c) (p := p) (b0 := 1000000) (y0 := 0) (c - p)
    (fun q a b => (th_bw_fin L c (c - 1 - p) q (by omega) (by omega)).1) (fun q a b => (th_bw_fin L c (c - 1 - p) q (by omega) (by omega)).2)
  rw [← h.1, ← h.2]
  simp only [pb_bw, updZ, hk, if_true, hl.1, hl.2, hc]
  exact ⟨trivial, trivial⟩
theorem th_be_lo (L : Nat → Nat → Int) (c p : Nat) (hp : p < c) : pb_be L c p = pb_lo (L p) (pb_be L c) p (c - p) := by
  rw [(th_be_rec L c p hp).1, th_fb_fst]
theorem th_be_spec {L : Nat → Nat → Int} {c : Nat} (hL : th_Lb L c) : ∀ m p, c - p ≤ m → p ≤ c → (∀ n y, th_PR L c n p y → pb_be L c p ≤ y) ∧ (pb_be L c p < 1000000 → ∃ n, th_PR L c n p (pb_be L c p)) := by
  intro m
  induction m with
  | zero =>
    intro p h1 h2
    have e : p = c := by omega
    subst e
    rw [(th_be_c L p).1]
    refine ⟨fun n y hy => ?_, fun _ => ⟨0, rfl, rfl⟩⟩
    cases n with
    | zero => have := hy.2; omega
    | succ n => obtain ⟨q, a, b, _⟩ := hy; omega
  | succ m ih =>
    intro p h1 h2
    by_cases hp : p = c
    · exact ih p (by omega) h2
    · have e := th_be_lo L c p (by omega)
      constructor
      · intro n y hy
        cases n with
        | zero => exact absurd hy.1 hp
        | succ n =>
          obtain ⟨q, a1, a2, a3, a4⟩ := hy
          have hb := th_PR_bd hL n q _ a4
          have i1 := (ih q (by omega) a2).1 n _ a4
          have hlc : -40 ≤ L p q := by rcases hL.2 p q a1 a2 with e | e <;> omega
          have hc := hL.1
          have := th_lo_le (L := L p) (R := pb_be L c) (p := p) (k := c - p) a1 (by omega) a3 (by omega)
          omega
      · intro h
        rw [e] at h
        obtain ⟨q, a1, a2, a3, a4, e2⟩ := th_lo_at h
        obtain ⟨n, hn⟩ := (ih q (by omega) (by omega)).2 a4
        refine ⟨n + 1, q, a1, by omega, a3, ?_⟩
        rw [e, e2, show L p q + pb_be L c q - L p q = pb_be L c q by omega]
        exact hn
theorem th_be_far (L : Nat → Nat → Int) (c p : Nat) : pb_be L c p ≤ 1000000 := by
  rcases Nat.lt_trichotomy p c with h | h | h
  · rw [th_be_lo L c p h]; exact th_lo_far _ _ _ _
  · subst h; rw [(th_be_c L p).1]; omega
  · rw [(th_be_out L c p h).1]; omega
theorem th_be_bd {L : Nat → Nat → Int} {c : Nat} (hL : th_Lb L c) (p : Nat) : -400 ≤ pb_be L c p ∧ (pb_be L c p < 1000000 → pb_be L c p ≤ 37400) := by
  by_cases hp : p ≤ c
  · by_cases h : pb_be L c p < 1000000
    · obtain ⟨n, hn⟩ := (th_be_spec hL (c - p) p (by omega) hp).2 h
      have := th_PR_bd hL _ _ _ hn
      have := hL.1
      omega
    · omega
  · rw [(th_be_out L c p (by omega)).1]; omega
/-- the least cost is that of some number of lines -/
theorem th_be_on {L : Nat → Nat → Int} {c : Nat} (hL : th_Lb L c) {p : Nat} (hp : p ≤ c) : (∀ n, n ≤ 10 → pb_be L c p ≤ pb_on L c n p) ∧ (pb_be L c p < 1000000 → ∃ n, n ≤ 10 ∧ pb_on L c n p = pb_be L c p) := by
  constructor
  · intro n hn
    by_cases h : pb_on L c n p < 1000000
    · exact (th_be_spec hL (c - p) p (by omega) hp).1 n _ ((th_on_spec hL n hn p).2 h)
    · have := th_be_far L c p
      omega
  · intro h
    obtain ⟨n, hn⟩ := (th_be_spec hL (c - p) p (by omega) hp).2 h
    have hb := th_PR_bd hL _ _ _ hn
    have hc := hL.1
    have h10 : n ≤ 10 := by omega
    refine ⟨n, h10, ?_⟩
    have i1 := (th_on_spec hL n h10 p).1 _ hn
    have i2 := (th_on_spec hL n h10 p).2 (by omega)
    have i3 := (th_be_spec hL (c - p) p (by omega) hp).1 n _ i2
    omega
theorem th_fw_spec (O : Nat → Int) (b : Int) : ∀ k n, (pb_fw O b k n = -1 ∧ ∀ j, n ≤ j → j < n + k → ¬ (O j < 1000000 ∧ O j = b)) ∨ ∃ m : Nat, pb_fw O b k n = (m : Int) ∧ n ≤ m ∧ m < n + k ∧ O m < 1000000 ∧ O m = b ∧ ∀ j, n ≤ j → j < m → ¬ (O j < 1000000 ∧ O j = b) := by
  intro k
  induction k with
  | zero => intro n; exact Or.inl ⟨rfl, fun j a b => by omega⟩
  | succ k ih =>
    intro n
    by_cases h : O n < 1000000 ∧ O n = b
    · refine Or.inr ⟨n, by simp only [pb_fw]; rw [if_pos h], Nat.le_refl n, by omega, h.1, h.2, fun j a b => by omega⟩
    · have e : pb_fw O b (k + 1) n = pb_fw O b k (n + 1) := by simp only [pb_fw]; rw [if_neg h]
      rw [e]
      rcases ih (n + 1) with ⟨h1, h2⟩ | ⟨m, h1, h2, h3, h4, h5, h6⟩
      · refine Or.inl ⟨h1, fun j a b => ?_⟩
        by_cases hj : j = n
        · subst hj; exact h
        · exact h2 j (by omega) (by omega)
      · refine Or.inr ⟨m, h1, by omega, by omega, h4, h5, fun j a b => ?_⟩
        by_cases hj : j = n
        · subst hj; exact h
        · exact h6 j (by omega) b
theorem th_fe_spec (L R : Nat → Int) (v : Int) (c : Nat) : ∀ k q, (pb_fe L R v c k q = c ∧ ∀ j, q ≤ j → j < q + k → ¬ (L j < 1000000 ∧ R j < 1000000 ∧ L j + R j = v)) ∨ ∃ r : Nat, pb_fe L R v c k q = r ∧ q ≤ r ∧ r < q + k ∧ (L r < 1000000 ∧ R r < 1000000 ∧ L r + R r = v) ∧ ∀ j, q ≤ j → j < r → ¬ (L j < 1000000 ∧ R j < 1000000 ∧ L j + R j = v) := by
  intro k
  induction k with
  | zero => intro q; exact Or.inl ⟨rfl, fun j a b => by omega⟩
  | succ k ih =>
    intro q
    by_cases h : L q < 1000000 ∧ R q < 1000000 ∧ L q + R q = v
    · exact Or.inr ⟨q, by simp only [pb_fe]; rw [if_pos h], Nat.le_refl q, by omega, h, fun j a b => by omega⟩
    · have e : pb_fe L R v c (k + 1) q = pb_fe L R v c k (q + 1) := by simp only [pb_fe]; rw [if_neg h]
      rw [e]
      rcases ih (q + 1) with ⟨h1, h2⟩ | ⟨m, h1, h2, h3, h4, h6⟩
      · refine Or.inl ⟨h1, fun j a b => ?_⟩
        by_cases hj : j = q
        · subst hj; exact h
        · exact h2 j (by omega) (by omega)
      · refine Or.inr ⟨m, h1, by omega, by omega, h4, fun j a b => ?_⟩
        by_cases hj : j = q
        · subst hj; exact h
        · exact h6 j (by omega) b
/-! line costs are small, or FAR -/
theorem th_sm_bd {W : Nat → Int} (hW : ∀ i, 0 ≤ W i ∧ W i ≤ 12) (p k : Nat) : 0 ≤ pb_sm W p k ∧ pb_sm W p k ≤ 12 * (k : Int) := by
  induction k with
  | zero => simp [pb_sm]
  | succ k ih =>
    simp only [pb_sm]
    have := hW (p + k)
    omega
theorem th_len_bd {s : Par} (h : pb_Ok s) {p q : Nat} (hpq : p < q) : 0 ≤ pb_len s p q ∧ pb_len s p q ≤ 14 * ((q : Int) - p) := by
  unfold pb_len
  have := th_sm_bd h.2.2.2.1 p (q - p)
  omega
theorem th_sq (d : Int) : 0 ≤ d * d ∧ 3 * d * d = d * d * 3 := by
  refine ⟨?_, by rw [Int.mul_assoc, Int.mul_comm 3]⟩
  rcases Int.le_total 0 d with h | h
  · exact Int.mul_nonneg h h
  · exact Int.mul_nonneg_of_nonpos_of_nonpos h h
theorem th_sq_le {d a : Int} (h1 : -a ≤ d) (h2 : d ≤ a) : d * d ≤ a * a := by
  have h := Int.mul_nonneg (show 0 ≤ a - d by omega) (show 0 ≤ a + d by omega)
  rw [Int.sub_mul, Int.mul_add, Int.mul_add, Int.mul_comm d a] at h
  omega
theorem th_lc_fin {s : Par} (h : pb_Ok s) (b : Int) {p q : Nat} (hpq : p < q) (hq : q ≤ s.c) : ((s.w - pb_len s p q < (p : Int) + 1 - q ∨ (q < s.c ∧ (q : Int) - 1 = b)) ∧ pb_lc s b p q = 1000000) ∨ (¬ (s.w - pb_len s p q < (p : Int) + 1 - q ∨ (q < s.c ∧ (q : Int) - 1 = b)) ∧ -40 ≤ pb_lc s b p q ∧ pb_lc s b p q ≤ 3740) := by
  have hl := th_len_bd h hpq
  obtain ⟨hw, he, hc, -, hP⟩ := h
  have hP := hP (q - 1)
  obtain ⟨d, hd⟩ : ∃ d, d = s.w - pb_len s p q := ⟨_, rfl⟩
  unfold pb_lc
  rw [← hd]
  have hd1 : d ≤ 60 := by omega
  by_cases h1 : d < (p : Int) + 1 - q ∨ (q < s.c ∧ (q : Int) - 1 = b)
  · rw [if_pos h1]; exact Or.inl ⟨h1, rfl⟩
  · rw [if_neg h1]
    have hd2 : -10 ≤ d := by omega
    have s1 := th_sq d
    have s2 := th_sq_le (d := d) (a := 60) (by omega) hd1
    have s3 : d < 0 → d * d ≤ 10 * 10 := fun h => th_sq_le (by omega) (by omega)
    right
    refine ⟨h1, ?_⟩
    by_cases h2 : q = s.c
    · rw [if_pos h2]
      by_cases h3 : 0 ≤ d
      · rw [if_pos h3]; omega
      · rw [if_neg h3]; have := s3 (by omega); omega
    · rw [if_neg h2]
      have hx : 0 ≤ (if pb_pen s p = true ∧ pb_pen s q = true then s.e else 0) ∧ (if pb_pen s p = true ∧ pb_pen s q = true then s.e else 0) ≤ 100 := by split <;> omega
      by_cases h3 : 0 ≤ d
      · rw [if_pos h3]; omega
      · rw [if_neg h3]; have := s3 (by omega); omega
theorem th_lc_bd {s : Par} (h : pb_Ok s) (b : Int) {p q : Nat} (hpq : p < q) (hq : q ≤ s.c) : pb_lc s b p q = 1000000 ∨ (-40 ≤ pb_lc s b p q ∧ pb_lc s b p q ≤ 3740) := by
  rcases th_lc_fin h b hpq hq with e | e
  · exact Or.inl e.2
  · exact Or.inr e.2
theorem th_lb_of {s : Par} (h : pb_Ok s) (b : Int) : th_Lb (pb_lc s b) s.c := ⟨h.2.2.1, fun p q h1 h2 => th_lc_bd h b h1 h2⟩
end
section
/-! THE PLAIN LAW, 2: sets of breaks against paths -/
def th_tl (L : Nat → Nat → Int) (c : Nat) (f : Nat → Bool) : Nat → Nat → Nat → Option Int
  | 0, _, _ => some 0
  | m + 1, k, b => if f k = true ∨ k + 1 = c then (if L b (k + 1) < 1000000 then (th_tl L c f m (k + 1) (k + 1)).map (fun y => L b (k + 1) + y) else none) else th_tl L c f m (k + 1) b
def th_ec (c : Nat) (f : Nat → Bool) : Nat → Nat → Nat
  | 0, _ => 0
  | m + 1, k => (if f k = true ∨ k + 1 = c then 1 else 0) + th_ec c f m (k + 1)
theorem th_tl_next {L : Nat → Nat → Int} {c : Nat} {f : Nat → Bool} : ∀ (m k b : Nat) (y : Int), k + m = c → 0 < m → th_tl L c f m k b = some y → ∃ (q m' : Nat) (y' : Int), k < q ∧ q + m' = c ∧ (∀ j, k ≤ j → j + 1 < q → f j = false) ∧ (f (q - 1) = true ∨ q = c) ∧ L b q < 1000000 ∧ th_tl L c f m' q q = some y' ∧ y = L b q + y' ∧ th_ec c f m k = 1 + th_ec c f m' q := by
  intro m
  induction m with
  | zero => intro k b y _ h; omega
  | succ m ih =>
    intro k b y h1 _ h
    simp only [th_tl] at h
    by_cases hc : f k = true ∨ k + 1 = c
    · rw [if_pos hc] at h
      by_cases hl : L b (k + 1) < 1000000
      · rw [if_pos hl] at h
        obtain ⟨y', e1, e2⟩ := Option.map_eq_some_iff.mp h
        refine ⟨k + 1, m, y', by omega, by omega, fun j a b => by omega, ?_, hl, e1, e2.symm, ?_⟩
        · exact hc
        · simp only [th_ec]; rw [if_pos hc]
      · rw [if_neg hl] at h; cases h
    · rw [if_neg hc] at h
      have hm : 0 < m := by
        rcases Nat.eq_zero_or_pos m with e | e
        · exact absurd (Or.inr (by omega)) hc
        · exact e
      obtain ⟨q, m', y', a1, a2, a3, a4, a5, a6, a7, a8⟩ := ih (k + 1) b y (by omega) hm h
      refine ⟨q, m', y', by omega, a2, fun j b1 b2 => ?_, a4, a5, a6, a7, ?_⟩
      · by_cases hj : j = k
        · subst hj
          cases hf : f j with
          | true => exact absurd (Or.inl hf) hc
          | false => rfl
        · exact a3 j (by omega) b2
      · simp only [th_ec]; rw [if_neg hc, a8]; omega
theorem th_tl_skip {L : Nat → Nat → Int} {c : Nat} {f : Nat → Bool} {q m' : Nat} (hq : q + m' = c) (hf : f (q - 1) = true ∨ q = c) : ∀ (m k b : Nat), k < q → k + m = c → (∀ j, k ≤ j → j + 1 < q → f j = false) → th_tl L c f m k b = (if L b q < 1000000 then (th_tl L c f m' q q).map (fun y => L b q + y) else none) ∧ th_ec c f m k = 1 + th_ec c f m' q := by
  intro m
  induction m with
  | zero => intro k b h1 h2; omega
  | succ m ih =>
    intro k b h1 h2 h3
    by_cases hk : k + 1 = q
    · subst hk
      have hm : m = m' := by omega
      subst hm
      have hc : f k = true ∨ k + 1 = c := hf
      simp only [th_tl, th_ec]
      rw [if_pos hc, if_pos hc]
      exact ⟨rfl, rfl⟩
    · have hc : ¬ (f k = true ∨ k + 1 = c) := by
        rw [h3 k (by omega) (by omega)]
        intro h
        rcases h with h | h
        · cases h
        · omega
      obtain ⟨i1, i2⟩ := ih (k + 1) b (by omega) (by omega) (fun j a b => h3 j (by omega) b)
      simp only [th_tl, th_ec]
      rw [if_neg hc, if_neg hc, i1, i2]
      exact ⟨rfl, by omega⟩
theorem th_tl_congr {L : Nat → Nat → Int} {c : Nat} {f g : Nat → Bool} : ∀ (m k b : Nat), k + m = c → (∀ j, k ≤ j → j + 1 < c → f j = g j) → th_tl L c f m k b = th_tl L c g m k b ∧ th_ec c f m k = th_ec c g m k := by
  intro m
  induction m with
  | zero => intro k b _ _; exact ⟨rfl, rfl⟩
  | succ m ih =>
    intro k b h1 h2
    obtain ⟨i1, i2⟩ := ih (k + 1) (k + 1) (by omega) (fun j a b => h2 j (by omega) b)
    obtain ⟨i3, -⟩ := ih (k + 1) b (by omega) (fun j a b => h2 j (by omega) b)
    simp only [th_tl, th_ec]
    by_cases hk : k + 1 = c
    · rw [if_pos (Or.inr hk), if_pos (Or.inr hk), if_pos (Or.inr hk), if_pos (Or.inr hk), i1, i2]
      exact ⟨rfl, rfl⟩
    · rw [h2 k (by omega) (by omega), i1, i2, i3]
      exact ⟨rfl, rfl⟩
theorem th_tl_path {L : Nat → Nat → Int} {c : Nat} {f : Nat → Bool} : ∀ (N m k : Nat) (y : Int), m ≤ N → k + m = c → th_tl L c f m k k = some y → th_PR L c (th_ec c f m k) k y := by
  intro N
  induction N with
  | zero =>
    intro m k y h1 h2 h
    have e : m = 0 := by omega
    subst e
    simp only [th_tl, Option.some.injEq] at h
    exact ⟨by omega, h.symm⟩
  | succ N ih =>
    intro m k y h1 h2 h
    rcases Nat.eq_zero_or_pos m with e | e
    · subst e
      simp only [th_tl, Option.some.injEq] at h
      exact ⟨by omega, h.symm⟩
    · obtain ⟨q, m', y', a1, a2, a3, a4, a5, a6, a7, a8⟩ := th_tl_next m k k y h2 e h
      have i := ih m' q y' (by omega) a2 a6
      rw [a8, Nat.add_comm 1]
      refine ⟨q, a1, by omega, a5, ?_⟩
      rw [a7, show L k q + y' - L k q = y' by omega]
      exact i
/-- a set with its first break at q, further on as g -/
def th_ext (q : Nat) (g : Nat → Bool) : Nat → Bool := fun j => if j + 1 < q then false else if j + 1 = q then true else g j
theorem th_ext_tl {L : Nat → Nat → Int} {c p q : Nat} {g : Nat → Bool} {y : Int} (hpq : p < q) (hq : q ≤ c) (hL : L p q < 1000000) (h : th_tl L c g (c - q) q q = some y) : th_tl L c (th_ext q g) (c - p) p p = some (L p q + y) ∧ th_ec c (th_ext q g) (c - p) p = th_ec c g (c - q) q + 1 := by
  have hs := th_tl_skip (L := L) (f := th_ext q g) (q := q) (m' := c - q) (c := c) (by omega) (Or.inl (by unfold th_ext; rw [if_neg (by omega), if_pos (by omega)])) (c - p) p p hpq (by omega) (fun j a b => by unfold th_ext; rw [if_pos b])
  have hc := th_tl_congr (L := L) (c := c) (f := th_ext q g) (g := g) (c - q) q q (by omega) (fun j a b => by unfold th_ext; rw [if_neg (by omega), if_neg (by omega)])
  rw [hs.1, hs.2, if_pos hL, hc.1, hc.2, h]
  exact ⟨rfl, by omega⟩
theorem th_path_tl {L : Nat → Nat → Int} {c : Nat} : ∀ (n p : Nat) (y : Int), th_PR L c n p y → ∃ f : Nat → Bool, th_tl L c f (c - p) p p = some y ∧ th_ec c f (c - p) p = n := by
  intro n
  induction n with
  | zero =>
    intro p y h
    obtain ⟨h1, h2⟩ := h
    subst h1; subst h2
    rw [Nat.sub_self]
    exact ⟨fun _ => false, rfl, rfl⟩
  | succ n ih =>
    intro p y h
    obtain ⟨q, h1, h2, h3, h4⟩ := h
    obtain ⟨g, g1, g2⟩ := ih q _ h4
    have e := th_ext_tl (g := g) h1 h2 h3 g1
    refine ⟨th_ext q g, ?_, ?_⟩
    · rw [e.1, show L p q + (y - L p q) = y by omega]
    · rw [e.2, g2]
/-! bits of a set -/
def th_fS (set : Nat) : Nat → Bool := fun j => decide (pb_bt set j = 1)
theorem th_bt_0 (set : Nat) : pb_bt set 0 = set % 2 := by simp [pb_bt]
theorem th_bt_s (set j : Nat) : pb_bt set (j + 1) = pb_bt (set / 2) j := by
  unfold pb_bt
  rw [Nat.pow_succ, Nat.mul_comm, ← Nat.div_div_eq_div_mul]
theorem th_bt_lt (set j : Nat) : pb_bt set j < 2 := Nat.mod_lt _ (by omega)
theorem th_bt_high {set m : Nat} (h : set < 2 ^ m) {j : Nat} (hj : m ≤ j) : pb_bt set j = 0 := by
  unfold pb_bt
  rw [Nat.div_eq_of_lt (Nat.lt_of_lt_of_le h (Nat.pow_le_pow_right (by omega) hj))]
theorem th_bits : ∀ (m : Nat) (f : Nat → Bool), ∃ set, set < 2 ^ m ∧ ∀ j, j < m → th_fS set j = f j := by
  intro m
  induction m with
  | zero => intro f; exact ⟨0, by simp, fun j h => by omega⟩
  | succ m ih =>
    intro f
    obtain ⟨s', h1, h2⟩ := ih (fun j => f (j + 1))
    have hp : 2 ^ (m + 1) = 2 * 2 ^ m := by rw [Nat.pow_succ, Nat.mul_comm]
    refine ⟨2 * s' + (if f 0 = true then 1 else 0), ?_, fun j hj => ?_⟩
    · rw [hp]; split <;> omega
    · cases j with
      | zero =>
        unfold th_fS
        rw [th_bt_0]
        cases hf : f 0 with
        | true => rw [if_pos rfl]; exact decide_eq_true (by omega)
        | false => rw [if_neg (by simp)]; exact decide_eq_false (by omega)
      | succ j =>
        have hd : (2 * s' + (if f 0 = true then 1 else 0)) / 2 = s' := by split <;> omega
        have := h2 j (by omega)
        unfold th_fS at this ⊢
        rw [th_bt_s, hd]
        exact this
theorem th_bits_ext : ∀ (m a b : Nat), a < 2 ^ m → b < 2 ^ m → (∀ j, j < m → pb_bt a j = pb_bt b j) → a = b := by
  intro m
  induction m with
  | zero => intro a b ha hb _; simp at ha hb; omega
  | succ m ih =>
    intro a b ha hb h
    have hp : 2 ^ (m + 1) = 2 * 2 ^ m := by rw [Nat.pow_succ, Nat.mul_comm]
    have h0 := h 0 (by omega)
    rw [th_bt_0, th_bt_0] at h0
    have i := ih (a / 2) (b / 2) (by omega) (by omega) (fun j hj => by
      have := h (j + 1) (by omega)
      rw [th_bt_s, th_bt_s] at this
      exact this)
    omega
theorem th_pop_high {set m : Nat} (h : set < 2 ^ m) : ∀ d, ma_pop set (m + d) = ma_pop set m := by
  intro d
  induction d with
  | zero => rfl
  | succ d ih =>
    rw [show m + (d + 1) = (m + d) + 1 by omega]
    simp only [ma_pop]
    rw [ih, th_bt_high h (by omega), Nat.add_zero]
theorem th_pop_ec (set : Nat) {c : Nat} : ∀ m k, k + m = c → 0 < m → ma_pop set k + th_ec c (th_fS set) m k = ma_pop set (c - 1) + 1 := by
  intro m
  induction m with
  | zero => intro k _ h; omega
  | succ m ih =>
    intro k h1 _
    simp only [th_ec]
    rcases Nat.eq_zero_or_pos m with e | e
    · subst e
      rw [if_pos (Or.inr (by omega)), show c - 1 = k by omega]
      simp [th_ec]
    · have i := ih (k + 1) (by omega) e
      simp only [ma_pop] at i
      have hl := th_bt_lt set k
      by_cases hb : pb_bt set k = 1
      · have hb' : th_fS set k = true := decide_eq_true hb
        rw [if_pos (Or.inl hb')]; omega
      · have hb' : ¬ (th_fS set k = true ∨ k + 1 = c) := by
          intro h
          rcases h with h | h
          · exact hb (of_decide_eq_true h)
          · omega
        rw [if_neg hb']
        omega
theorem th_sets (s : Par) : ma_sets s = 2 ^ (s.c - 1) := by
  unfold ma_sets
  split
  · rename_i h; rw [h]
  · rfl
theorem th_cn_ec {s : Par} (hc : s.c ≤ 10) {set : Nat} (h : set < ma_sets s) : ma_cn s set = th_ec s.c (th_fS set) s.c 0 := by
  rw [th_sets] at h
  unfold ma_cn
  have h1 := th_pop_high h (10 - (s.c - 1))
  rw [show s.c - 1 + (10 - (s.c - 1)) = 10 by omega] at h1
  rw [h1]
  rcases Nat.eq_zero_or_pos s.c with e | e
  · rw [e]; simp [ma_pop, th_ec]
  · have := th_pop_ec (c := s.c) set s.c 0 (by omega) e
    simp only [ma_pop] at this
    rw [if_pos e]
    omega
theorem th_ec_le (c : Nat) (f : Nat → Bool) : ∀ m k, th_ec c f m k ≤ m := by
  intro m
  induction m with
  | zero => intro k; simp [th_ec]
  | succ m ih =>
    intro k
    have := ih (k + 1)
    simp only [th_ec]
    split <;> omega
/-! costOf is the cost of the path -/
theorem th_bad {s : Par} (h : pb_Ok s) {b k : Nat} (hb : b ≤ k) (hk : k < s.c) : (ma_bad s b k < 0 ∧ ¬ pb_L s b (k + 1) < 1000000) ∨ (¬ ma_bad s b k < 0 ∧ pb_L s b (k + 1) < 1000000 ∧ ma_bad s b k + (if k + 1 < s.c then s.P k else 0) + (if pb_pen s b = true ∧ ma_here s k = true then s.e else 0) = pb_L s b (k + 1)) := by
  have hlc := th_lc_fin h (-1) (p := b) (q := k + 1) (by omega) (by omega)
  obtain ⟨d, hd⟩ : ∃ d, d = s.w - pb_len s b (k + 1) := ⟨_, rfl⟩
  have s1 := th_sq d
  unfold ma_bad
  by_cases h1 : d < (b : Int) - k
  · left
    have e : pb_L s b (k + 1) = 1000000 := by
      unfold pb_L pb_lc
      rw [← hd, if_pos (Or.inl (by omega))]
    rw [e, ← hd, if_pos h1]
    omega
  · right
    have hn : ¬ (d < (b : Int) + 1 - ((k + 1 : Nat) : Int) ∨ (k + 1 < s.c ∧ ((k + 1 : Nat) : Int) - 1 = -1)) := by omega
    have e : pb_L s b (k + 1) = (if k + 1 = s.c then (if 0 ≤ d then 0 else 3 * d * d) else (if 0 ≤ d then d * d else 3 * d * d) + s.P (k + 1 - 1) + (if pb_pen s b = true ∧ pb_pen s (k + 1) = true then s.e else 0)) := by
      unfold pb_L pb_lc
      rw [← hd, if_neg hn]
    have hlt : pb_L s b (k + 1) < 1000000 := by
      rcases hlc with q | q
      · exact absurd (by rw [hd]; exact q.1) hn
      · show pb_lc s (-1) b (k + 1) < 1000000
        omega
    rw [← hd, if_neg h1]
    refine ⟨?_, hlt, ?_⟩
    · split
      · omega
      · split <;> omega
    · rw [e]
      by_cases h2 : k + 1 = s.c
      · have n1 : ¬ k + 1 < s.c := by omega
        have n2 : ¬ (pb_pen s b = true ∧ ma_here s k = true) := by
          rintro ⟨-, q⟩
          unfold ma_here at q
          rw [decide_eq_false n1] at q
          cases q
        rw [if_pos h2, if_neg n1, if_neg n2]
        by_cases h3 : d < 0
        · have h4 : ¬ 0 ≤ d := by omega
          rw [if_pos h3, if_neg h4]; omega
        · have h4 : 0 ≤ d := by omega
          rw [if_neg h3, if_pos h2, if_pos h4]; omega
      · have n1 : k + 1 < s.c := by omega
        have hh : ma_here s k = pb_pen s (k + 1) := by
          unfold ma_here pb_pen
          rw [decide_eq_true (show k + 1 < s.c by omega), decide_eq_true (show 0 < k + 1 by omega)]
          rfl
        rw [if_neg h2, if_pos n1, hh, show k + 1 - 1 = k by omega]
        by_cases h3 : d < 0
        · have h4 : ¬ 0 ≤ d := by omega
          rw [if_pos h3, if_neg h4]; omega
        · have h4 : 0 ≤ d := by omega
          rw [if_neg h3, if_neg h2, if_pos h4]
theorem th_cs_none (s : Par) (set k : Nat) (h : ma_cs s set k = none) : ∀ d, ma_cs s set (k + d) = none := by
  intro d
  induction d with
  | zero => exact h
  | succ d ih =>
    rw [show k + (d + 1) = (k + d) + 1 by omega]
    simp only [ma_cs]
    rw [ih]
    rfl
theorem th_co_tl {s : Par} (h : pb_Ok s) (set : Nat) : ∀ (m k : Nat) (co : Int) (b : Nat) (hi : Bool), k + m = s.c → b ≤ k → ma_cs s set k = some (co, b, hi) → (k < s.c → hi = pb_pen s b) → ma_co s set = (match th_tl (pb_L s) s.c (th_fS set) m k b with | none => -1000000 | some y => co + y) := by
  intro m
  induction m with
  | zero =>
    intro k co b hi h1 _ h2 _
    have e : k = s.c := by omega
    subst e
    unfold ma_co
    rw [h2]
    simp [th_tl]
  | succ m ih =>
    intro k co b hi h1 hbk h2 h3
    have hk : k < s.c := by omega
    have h3 := h3 hk
    have hst : ma_cs s set (k + 1) = ma_st s set k (co, b, hi) := by simp only [ma_cs]; rw [h2]; rfl
    simp only [th_tl]
    by_cases hc : pb_bt set k = 1 ∨ k + 1 = s.c
    · have hc' : th_fS set k = true ∨ k + 1 = s.c := by
        rcases hc with q | q
        · exact Or.inl (decide_eq_true q)
        · exact Or.inr q
      rw [if_pos hc']
      rcases th_bad h hbk hk with ⟨q1, q2⟩ | ⟨q1, q2, q3⟩
      · rw [if_neg q2]
        have hn : ma_cs s set (k + 1) = none := by
          rw [hst]
          unfold ma_st
          rw [if_pos hc, if_pos q1]
        have := th_cs_none s set (k + 1) hn (s.c - (k + 1))
        rw [show k + 1 + (s.c - (k + 1)) = s.c by omega] at this
        unfold ma_co
        rw [this]
      · rw [if_pos q2]
        have hn : ma_cs s set (k + 1) = some (co + pb_L s b (k + 1), k + 1, ma_here s k) := by
          rw [hst]
          unfold ma_st
          rw [if_pos hc, if_neg q1, ← q3, h3]
          congr 2
          dsimp only
          omega
        have i := ih (k + 1) _ _ _ (by omega) (Nat.le_refl _) hn (fun hlt => by
          unfold ma_here pb_pen
          rw [decide_eq_true (show k + 1 < s.c by omega), decide_eq_true (show 0 < k + 1 by omega)]
          rfl)
        rw [i]
        cases th_tl (pb_L s) s.c (th_fS set) m (k + 1) (k + 1) with
        | none => rfl
        | some y =>
          show co + pb_L s b (k + 1) + y = co + (pb_L s b (k + 1) + y)
          omega
    · have hc' : ¬ (th_fS set k = true ∨ k + 1 = s.c) := by
        intro q
        rcases q with q | q
        · exact hc (Or.inl (of_decide_eq_true q))
        · exact hc (Or.inr q)
      rw [if_neg hc']
      have hn : ma_cs s set (k + 1) = some (co, b, hi) := by
        rw [hst]
        unfold ma_st
        rw [if_neg hc]
      exact ih (k + 1) _ _ _ (by omega) (by omega) hn (fun _ => h3)
/-- costOf, as the cost of the path that the set is -/
theorem th_co {s : Par} (h : pb_Ok s) (set : Nat) : (th_tl (pb_L s) s.c (th_fS set) s.c 0 0 = none ∧ ma_co s set = -1000000) ∨ ∃ y, th_tl (pb_L s) s.c (th_fS set) s.c 0 0 = some y ∧ ma_co s set = y ∧ -400 ≤ y ∧ y ≤ 37400 := by
  have e := th_co_tl h set s.c 0 0 0 false (by omega) (Nat.le_refl 0) rfl (fun _ => by simp [pb_pen])
  cases ht : th_tl (pb_L s) s.c (th_fS set) s.c 0 0 with
  | none => rw [ht] at e; exact Or.inl ⟨rfl, e⟩
  | some y =>
    rw [ht] at e
    have hb := th_PR_bd (th_lb_of h (-1)) _ _ _ (th_tl_path s.c s.c 0 y (Nat.le_refl _) (by omega) ht)
    have hc := h.2.2.1
    refine Or.inr ⟨y, rfl, by rw [e]; simp, by omega, by omega⟩
/-- a path from 0 is a set -/
theorem th_set_of {L : Nat → Nat → Int} {s : Par} {n : Nat} {y : Int} (h : th_PR L s.c n 0 y) : ∃ set, set < ma_sets s ∧ th_tl L s.c (th_fS set) s.c 0 0 = some y ∧ th_ec s.c (th_fS set) s.c 0 = n := by
  obtain ⟨f, f1, f2⟩ := th_path_tl n 0 y h
  obtain ⟨set, h1, h2⟩ := th_bits (s.c - 1) f
  have hc := th_tl_congr (L := L) (c := s.c) (f := th_fS set) (g := f) s.c 0 0 (by omega) (fun j _ b => h2 j (by omega))
  exact ⟨set, by rw [th_sets]; exact h1, by rw [hc.1]; exact f1, by rw [hc.2]; exact f2⟩
/-! best, costWith: least of the sets that are taken -/
theorem th_bs (s : Par) (C : Nat → Bool) : ∀ i, ((ma_bs s C i).1 = -1 ∧ ∀ j, j < i → ma_val s C j = -1000000) ∨ ∃ j : Nat, j < i ∧ (ma_bs s C i).1 = (j : Int) ∧ (ma_bs s C i).2 = ma_val s C j ∧ ma_val s C j ≠ -1000000 ∧ ∀ j', j' < i → ma_val s C j' ≠ -1000000 → ma_val s C j ≤ ma_val s C j' := by
  intro i
  induction i with
  | zero => exact Or.inl ⟨rfl, fun j h => by omega⟩
  | succ i ih =>
    by_cases hc : ma_val s C i ≠ -1000000 ∧ ((ma_bs s C i).1 < 0 ∨ ma_val s C i < (ma_bs s C i).2 ∨ (ma_val s C i = (ma_bs s C i).2 ∧ ma_bf s i (ma_bs s C i).1.toNat = true))
    · have e : ma_bs s C (i + 1) = ((i : Int), ma_val s C i) := by simp only [ma_bs]; rw [if_pos hc]
      refine Or.inr ⟨i, by omega, by rw [e], by rw [e], hc.1, fun j' h1 h2 => ?_⟩
      by_cases hj : j' = i
      · subst hj; exact Int.le_refl _
      · rcases ih with ⟨-, a2⟩ | ⟨j, -, a2, a3, -, a5⟩
        · exact absurd (a2 j' (by omega)) h2
        · have := a5 j' (by omega) h2
          rcases hc.2 with b | b | b
          · omega
          · omega
          · omega
    · have e : ma_bs s C (i + 1) = ma_bs s C i := by simp only [ma_bs]; rw [if_neg hc]
      rw [e]
      rcases ih with ⟨a1, a2⟩ | ⟨j, a1, a2, a3, a4, a5⟩
      · refine Or.inl ⟨a1, fun j h => ?_⟩
        by_cases hj : j = i
        · subst hj
          by_cases hv : ma_val s C j = -1000000
          · exact hv
          · exact absurd ⟨hv, Or.inl (by omega)⟩ hc
        · exact a2 j (by omega)
      · refine Or.inr ⟨j, by omega, a2, a3, a4, fun j' h1 h2 => ?_⟩
        by_cases hj : j' = i
        · subst hj
          by_cases hv : ma_val s C j' < (ma_bs s C j').2
          · exact absurd ⟨h2, Or.inr (Or.inl hv)⟩ hc
          · omega
        · exact a5 j' (by omega) h2
theorem th_costB {s : Par} {C : Nat → Bool} {x : Int} (h1 : ∀ j, j < ma_sets s → C j = true → ma_co s j ≠ -1000000 → x ≤ ma_co s j) (h2 : x < 1000000 → ∃ j, j < ma_sets s ∧ C j = true ∧ ma_co s j = x ∧ x ≠ -1000000) (h3 : ∀ j, ma_co s j < 1000000) : ma_costB s C = pb_far x := by
  unfold ma_costB ma_best pb_far
  rcases th_bs s C (ma_sets s) with ⟨a1, a2⟩ | ⟨j, a1, a2, a3, a4, a5⟩
  · rw [a1, if_pos (by omega)]
    by_cases hx : x < 1000000
    · obtain ⟨j, b1, b2, b3, b4⟩ := h2 hx
      have := a2 j b1
      unfold ma_val at this
      rw [if_pos b2] at this
      omega
    · rw [if_neg hx]
  · have hC : C j = true := by
      by_cases q : C j = true
      · exact q
      · exact absurd (by unfold ma_val; rw [if_neg q]) a4
    have hv : ∀ i, C i = true → ma_val s C i = ma_co s i := fun i q => by unfold ma_val; rw [if_pos q]
    rw [hv j hC] at a4 a5
    have i1 := h1 j a1 hC a4
    have i3 := h3 j
    obtain ⟨j', b1, b2, b3, b4⟩ := h2 (by omega)
    have i2 := a5 j' b1 (by rw [hv j' b2, b3]; exact b4)
    rw [hv j' b2] at i2
    rw [a2, if_neg (by omega), if_pos (by omega), Int.toNat_natCast]
    omega
theorem th_co_lt {s : Par} (h : pb_Ok s) (set : Nat) : ma_co s set < 1000000 := by
  rcases th_co h set with ⟨-, e⟩ | ⟨y, -, e, -, e2⟩ <;> omega
theorem th_cost {s : Par} (h : pb_Ok s) : ma_cost s = xa_cost s := by
  unfold ma_cost xa_cost
  have hL : th_Lb (pb_L s) s.c := th_lb_of h (-1)
  have hb := th_be_spec hL s.c 0 (by omega) (by omega)
  refine th_costB (fun j _ _ hj => ?_) (fun hx => ?_) (th_co_lt h)
  · rcases th_co h j with ⟨-, e⟩ | ⟨y, e1, e2, -, -⟩
    · exact absurd e hj
    · rw [e2]
      exact hb.1 _ _ (th_tl_path s.c s.c 0 y (Nat.le_refl _) (by omega) e1)
  · obtain ⟨n, hn⟩ := hb.2 hx
    obtain ⟨set, a1, a2, -⟩ := th_set_of hn
    have hlow := (th_be_bd hL 0).1
    rcases th_co h set with ⟨e, -⟩ | ⟨y, e1, e2, -, -⟩
    · rw [a2] at e; cases e
    · rw [a2] at e1
      exact ⟨set, a1, rfl, by rw [e2]; exact (Option.some.inj e1).symm, by omega⟩
theorem th_cw (s : Par) (n : Int) : ∀ i, (ma_cw s n i = -1000000 ∧ ∀ j, j < i → ma_cwv s n j = -1000000) ∨ ∃ j : Nat, j < i ∧ ma_cw s n i = ma_cwv s n j ∧ ma_cwv s n j ≠ -1000000 ∧ ∀ j', j' < i → ma_cwv s n j' ≠ -1000000 → ma_cwv s n j ≤ ma_cwv s n j' := by
  intro i
  induction i with
  | zero => exact Or.inl ⟨rfl, fun j h => by omega⟩
  | succ i ih =>
    by_cases hc : ma_cwv s n i ≠ -1000000 ∧ (ma_cw s n i = -1000000 ∨ ma_cwv s n i < ma_cw s n i)
    · have e : ma_cw s n (i + 1) = ma_cwv s n i := by simp only [ma_cw]; rw [if_pos hc]
      refine Or.inr ⟨i, by omega, e, hc.1, fun j' h1 h2 => ?_⟩
      by_cases hj : j' = i
      · subst hj; exact Int.le_refl _
      · rcases ih with ⟨-, a2⟩ | ⟨j, -, a2, a4, a5⟩
        · exact absurd (a2 j' (by omega)) h2
        · have := a5 j' (by omega) h2
          rcases hc.2 with b | b <;> omega
    · have e : ma_cw s n (i + 1) = ma_cw s n i := by simp only [ma_cw]; rw [if_neg hc]
      rw [e]
      rcases ih with ⟨a1, a2⟩ | ⟨j, a1, a2, a4, a5⟩
      · refine Or.inl ⟨a1, fun j h => ?_⟩
        by_cases hj : j = i
        · subst hj
          by_cases hv : ma_cwv s n j = -1000000
          · exact hv
          · exact absurd ⟨hv, Or.inl a1⟩ hc
        · exact a2 j (by omega)
      · refine Or.inr ⟨j, by omega, a2, a4, fun j' h1 h2 => ?_⟩
        by_cases hj : j' = i
        · subst hj
          by_cases hv : ma_cwv s n j' < ma_cw s n j'
          · exact absurd ⟨h2, Or.inr hv⟩ hc
          · omega
        · exact a5 j' (by omega) h2
theorem th_costWith {s : Par} (h : pb_Ok s) (n : Int) : ma_costWith s n = xa_costWith s n := by
  have hL : th_Lb (pb_L s) s.c := th_lb_of h (-1)
  have hc := h.2.2.1
  have hv : ∀ j, (ma_cn s j : Int) = n → ma_cwv s n j = ma_co s j := fun j q => by unfold ma_cwv; rw [if_pos q]
  have hv0 : ∀ j, ¬ (ma_cn s j : Int) = n → ma_cwv s n j = -1000000 := fun j q => by unfold ma_cwv; rw [if_neg q]
  have hcn : ∀ j, j < ma_sets s → ma_cn s j ≤ 10 := fun j hj => by
    rw [th_cn_ec hc hj]
    have := th_ec_le s.c (th_fS j) s.c 0
    omega
  unfold ma_costWith xa_costWith pb_far
  rcases th_cw s n (ma_sets s) with ⟨a1, a2⟩ | ⟨j, a1, a2, a4, a5⟩
  · rw [a1]
    split
    · rfl
    · rename_i hn
      by_cases hx : pb_on (pb_L s) s.c n.toNat 0 < 1000000
      · exfalso
        have hp := (th_on_spec hL n.toNat (by omega) 0).2 hx
        obtain ⟨set, b1, b2, b3⟩ := th_set_of hp
        have e := th_cn_ec hc b1
        have := a2 set b1
        rw [hv set (by omega)] at this
        rcases th_co h set with ⟨q, -⟩ | ⟨y, q1, q2, q3, -⟩
        · rw [b2] at q; cases q
        · omega
      · rw [if_neg hx]
  · have hjn : (ma_cn s j : Int) = n := by
      by_cases q : (ma_cn s j : Int) = n
      · exact q
      · exact absurd (hv0 j q) a4
    have h10 := hcn j a1
    rw [if_neg (by omega), a2]
    rw [hv j hjn] at a4 a5 ⊢
    have hon := th_on_spec hL n.toNat (by omega) 0
    rcases th_co h j with ⟨-, e⟩ | ⟨y, e1, e2, e3, e4⟩
    · exact absurd e a4
    · have hp := th_tl_path s.c s.c 0 y (Nat.le_refl _) (by omega) e1
      rw [← th_cn_ec hc a1, show ma_cn s j = n.toNat by omega] at hp
      have i1 := hon.1 _ hp
      have i2 := hon.2 (by omega)
      obtain ⟨set, b1, b2, b3⟩ := th_set_of i2
      have e := th_cn_ec hc b1
      rcases th_co h set with ⟨q, -⟩ | ⟨y', q1, q2, q3, -⟩
      · rw [b2] at q; cases q
      · rw [b2] at q1
        have q1 := Option.some.inj q1
        have i3 := a5 set b1 (by rw [hv set (by omega)]; omega)
        rw [hv set (by omega)] at i3
        rw [if_pos (by omega)]
        omega
end
section
/-! THE PLAIN LAW, 3: costKeeping, costBreaking, choices -/
theorem th_lc_bar (s : Par) (i p q : Nat) : pb_lc s (i : Int) p q = (if q < s.c ∧ q = i + 1 then 1000000 else pb_L s p q) ∨ q = 0 := by
  by_cases h0 : q = 0
  · exact Or.inr h0
  · left
    unfold pb_L pb_lc
    by_cases h1 : q < s.c ∧ q = i + 1
    · rw [if_pos h1, if_pos (Or.inr ⟨h1.1, by omega⟩)]
    · rw [if_neg h1]
      by_cases h2 : s.w - pb_len s p q < (p : Int) + 1 - q
      · rw [if_pos (Or.inl h2), if_pos (Or.inl h2)]
      · have n1 : ¬ (s.w - pb_len s p q < (p : Int) + 1 - q ∨ (q < s.c ∧ (q : Int) - 1 = (i : Int))) := by omega
        have n2 : ¬ (s.w - pb_len s p q < (p : Int) + 1 - q ∨ (q < s.c ∧ (q : Int) - 1 = -1)) := by omega
        rw [if_neg n1, if_neg n2]
theorem th_keep_tl {s : Par} {i : Nat} {f : Nat → Bool} (hf : f i = false) : ∀ m k b, k + m = s.c → th_tl (pb_lc s (i : Int)) s.c f m k b = th_tl (pb_L s) s.c f m k b := by
  intro m
  induction m with
  | zero => intro k b _; rfl
  | succ m ih =>
    intro k b h
    simp only [th_tl]
    rw [ih (k + 1) (k + 1) (by omega), ih (k + 1) b (by omega)]
    by_cases hc : f k = true ∨ k + 1 = s.c
    · have e : pb_lc s (i : Int) b (k + 1) = pb_L s b (k + 1) := by
        rcases th_lc_bar s i b (k + 1) with q | q
        · rw [q, if_neg]
          rintro ⟨q1, q2⟩
          have hk : k = i := by omega
          subst hk
          rcases hc with q3 | q3
          · rw [hf] at q3; cases q3
          · omega
        · omega
      rw [if_pos hc, if_pos hc, e]
    · rw [if_neg hc, if_neg hc]
theorem th_keep_none {s : Par} {i : Nat} {f : Nat → Bool} (hf : f i = true) (hi : i + 1 < s.c) : ∀ m k b, k + m = s.c → k ≤ i → th_tl (pb_lc s (i : Int)) s.c f m k b = none := by
  intro m
  induction m with
  | zero => intro k b _ _; omega
  | succ m ih =>
    intro k b h hk
    simp only [th_tl]
    by_cases hki : k = i
    · subst hki
      rw [if_pos (Or.inl hf), if_neg]
      rcases th_lc_bar s k b (k + 1) with q | q
      · rw [q, if_pos ⟨hi, rfl⟩]; omega
      · omega
    · rw [ih (k + 1) (k + 1) (by omega) (by omega), ih (k + 1) b (by omega) (by omega)]
      split
      · split <;> rfl
      · rfl
theorem th_costKeeping {s : Par} (h : pb_Ok s) (i : Int) : ma_costKeeping s i = xa_costKeeping s i := by
  unfold ma_costKeeping xa_costKeeping
  by_cases hi : i < 0 ∨ (s.c : Int) - 1 ≤ i
  · rw [if_pos hi, if_pos hi]
  · rw [if_neg hi, if_neg hi]
    obtain ⟨j, hj⟩ : ∃ j : Nat, i = (j : Int) := ⟨i.toNat, by omega⟩
    subst hj
    rw [Int.toNat_natCast]
    have hL := th_lb_of h (j : Int)
    have hb := th_be_spec hL s.c 0 (by omega) (by omega)
    refine th_costB (fun a a1 a2 hj => ?_) (fun hx => ?_) (th_co_lt h)
    · rcases th_co h a with ⟨-, e⟩ | ⟨y, e1, e2, -, -⟩
      · exact absurd e hj
      · rw [e2]
        have hf : th_fS a j = false := by
          unfold th_fS
          exact decide_eq_false (by have := of_decide_eq_true a2; omega)
        rw [← th_keep_tl hf s.c 0 0 (by omega)] at e1
        exact hb.1 _ _ (th_tl_path s.c s.c 0 y (Nat.le_refl _) (by omega) e1)
    · obtain ⟨n, hn⟩ := hb.2 hx
      obtain ⟨set, a1, a2, -⟩ := th_set_of hn
      have hlow := (th_be_bd hL 0).1
      have hf : th_fS set j = false := by
        cases q : th_fS set j with
        | false => rfl
        | true =>
          rw [th_keep_none q (by omega) s.c 0 0 (by omega) (by omega)] at a2
          cases a2
      rw [th_keep_tl hf s.c 0 0 (by omega)] at a2
      have hb0 : pb_bt set j = 0 := by
        have q := of_decide_eq_false hf
        have := th_bt_lt set j
        omega
      rcases th_co h set with ⟨e, -⟩ | ⟨y, e1, e2, -, -⟩
      · rw [a2] at e; cases e
      · rw [a2] at e1
        exact ⟨set, a1, decide_eq_true hb0, by rw [e2]; exact (Option.some.inj e1).symm, by omega⟩
/-! upTo -/
/-- n lines from 0 to q cost y -/
def th_PP (L : Nat → Nat → Int) : Nat → Nat → Int → Prop
  | 0, q, y => q = 0 ∧ y = 0
  | n + 1, q, y => ∃ p, p < q ∧ L p q < 1000000 ∧ th_PP L n p (y - L p q)
theorem th_PP_bd {L : Nat → Nat → Int} {c : Nat} (hL : th_Lb L c) : ∀ (n q : Nat) (y : Int), th_PP L n q y → q ≤ c → n ≤ q ∧ -40 * (n : Int) ≤ y ∧ y ≤ 3740 * (n : Int) := by
  intro n
  induction n with
  | zero =>
    intro q y h _
    obtain ⟨h1, h2⟩ := h
    subst h1; subst h2
    simp
  | succ n ih =>
    intro q y h hq
    obtain ⟨p, h1, h3, h4⟩ := h
    have := ih p _ h4 (by omega)
    rcases hL.2 p q h1 hq with e | e <;> omega
theorem th_ui_far (L : Nat → Nat → Int) (U : Nat → Int) (q k : Nat) : pb_ui L U q k ≤ 1000000 := by
  induction k with
  | zero => simp [pb_ui]
  | succ k ih =>
    simp only [pb_ui]
    split <;> omega
theorem th_ui_le {L : Nat → Nat → Int} {U : Nat → Int} {q k p : Nat} (h2 : p < k) (hL : L p q < 1000000) (hU : U p < 1000000) : pb_ui L U q k ≤ U p + L p q := by
  induction k with
  | zero => omega
  | succ k ih =>
    simp only [pb_ui]
    by_cases e : p = k
    · subst e
      split <;> omega
    · have := ih (by omega)
      split <;> omega
theorem th_ui_at {L : Nat → Nat → Int} {U : Nat → Int} {q k : Nat} (h : pb_ui L U q k < 1000000) : ∃ p, p < k ∧ L p q < 1000000 ∧ U p < 1000000 ∧ pb_ui L U q k = U p + L p q := by
  induction k with
  | zero => simp [pb_ui] at h
  | succ k ih =>
    by_cases hc : L k q < 1000000 ∧ U k < 1000000 ∧ U k + L k q < pb_ui L U q k
    · have e : pb_ui L U q (k + 1) = U k + L k q := by simp only [pb_ui]; rw [if_pos hc]
      exact ⟨k, by omega, hc.1, hc.2.1, e⟩
    · have e : pb_ui L U q (k + 1) = pb_ui L U q k := by simp only [pb_ui]; rw [if_neg hc]
      rw [e] at h
      obtain ⟨p, a, c, d, f⟩ := ih h
      exact ⟨p, by omega, c, d, by rw [e]; exact f⟩
theorem th_ui_congr {L : Nat → Nat → Int} {U V : Nat → Int} {q : Nat} (k : Nat) (h : ∀ p, p < k → U p = V p) : pb_ui L U q k = pb_ui L V q k := by
  induction k with
  | zero => rfl
  | succ k ih =>
    simp only [pb_ui]
    rw [ih (fun p hp => h p (by omega)), h k (by omega)]
theorem th_ut_keep (L : Nat → Nat → Int) (k : Nat) : ∀ d q, q ≤ k → pb_ut L (k + d) q = pb_ut L k q := by
  intro d
  induction d with
  | zero => intro q _; rfl
  | succ d ih =>
    intro q h
    rw [show k + (d + 1) = (k + d) + 1 by omega]
    simp only [pb_ut, updZ]
    rw [if_neg (by omega)]
    exact ih q h
theorem th_ut_fin (L : Nat → Nat → Int) (k q : Nat) (h : q ≤ k) : pb_ut L k q = pb_up L q := by
  have := th_ut_keep L q (k - q) q (Nat.le_refl q)
  rw [show q + (k - q) = k by omega] at this
  exact this
theorem th_up_0 (L : Nat → Nat → Int) : pb_up L 0 = 0 := by simp [pb_up, pb_ut]
theorem th_up_s (L : Nat → Nat → Int) (q : Nat) : pb_up L (q + 1) = pb_ui L (pb_up L) (q + 1) (q + 1) := by
  unfold pb_up
  simp only [pb_ut, updZ, if_true]
  exact th_ui_congr (q + 1) (fun p hp => th_ut_fin L q p (by omega))
theorem th_up_far (L : Nat → Nat → Int) (q : Nat) : pb_up L q ≤ 1000000 := by
  cases q with
  | zero => rw [th_up_0]; omega
  | succ q => rw [th_up_s]; exact th_ui_far _ _ _ _
theorem th_up_spec {L : Nat → Nat → Int} {c : Nat} (hL : th_Lb L c) : ∀ N q, q ≤ N → q ≤ c → (∀ n y, th_PP L n q y → pb_up L q ≤ y) ∧ (pb_up L q < 1000000 → ∃ n, th_PP L n q (pb_up L q)) := by
  intro N
  induction N with
  | zero =>
    intro q h1 _
    have e : q = 0 := by omega
    subst e
    rw [th_up_0]
    refine ⟨fun n y hy => ?_, fun _ => ⟨0, rfl, rfl⟩⟩
    cases n with
    | zero => have := hy.2; omega
    | succ n => obtain ⟨p, a, _⟩ := hy; omega
  | succ N ih =>
    intro q h1 h2
    cases q with
    | zero => exact ih 0 (by omega) h2
    | succ q =>
      have e := th_up_s L q
      constructor
      · intro n y hy
        cases n with
        | zero => exact absurd hy.1 (by omega)
        | succ n =>
          obtain ⟨p, a1, a3, a4⟩ := hy
          have hb := th_PP_bd hL n p _ a4 (by omega)
          have i1 := (ih p (by omega) (by omega)).1 n _ a4
          have hlc : -40 ≤ L p (q + 1) := by rcases hL.2 p (q + 1) a1 h2 with e | e <;> omega
          have hc := hL.1
          have := th_ui_le (L := L) (U := pb_up L) (q := q + 1) (k := q + 1) a1 a3 (by omega)
          omega
      · intro h
        rw [e] at h
        obtain ⟨p, a1, a3, a4, e2⟩ := th_ui_at h
        obtain ⟨n, hn⟩ := (ih p (by omega) (by omega)).2 a4
        refine ⟨n + 1, p, a1, a3, ?_⟩
        rw [e, e2, show pb_up L p + L p (q + 1) - L p (q + 1) = pb_up L p by omega]
        exact hn
theorem th_up_low {L : Nat → Nat → Int} {c : Nat} (hL : th_Lb L c) {q : Nat} (hq : q ≤ c) : -400 ≤ pb_up L q := by
  by_cases h : pb_up L q < 1000000
  · obtain ⟨n, hn⟩ := (th_up_spec hL q q (Nat.le_refl q) hq).2 h
    have := th_PP_bd hL _ _ _ hn hq
    have := hL.1
    omega
  · omega
/-- a set with a break after word i, cut there -/
theorem th_brk_cut {L : Nat → Nat → Int} {c i : Nat} {f : Nat → Bool} (hf : f i = true) (hi : i + 1 < c) : ∀ (m k b n : Nat) (y0 y : Int), k + m = c → k ≤ i → b ≤ k → th_PP L n b y0 → th_tl L c f m k b = some y → ∃ (n1 : Nat) (y1 y2 : Int), th_PP L n1 (i + 1) y1 ∧ th_tl L c f (c - (i + 1)) (i + 1) (i + 1) = some y2 ∧ y0 + y = y1 + y2 := by
  intro m
  induction m with
  | zero => intro k b n y0 y h1 h2; omega
  | succ m ih =>
    intro k b n y0 y h1 h2 h3 hp h
    simp only [th_tl] at h
    have hend : th_PP L (n + 1) (k + 1) (y0 + L b (k + 1)) ∨ ¬ L b (k + 1) < 1000000 := by
      by_cases hl : L b (k + 1) < 1000000
      · exact Or.inl ⟨b, by omega, hl, by rw [show y0 + L b (k + 1) - L b (k + 1) = y0 by omega]; exact hp⟩
      · exact Or.inr hl
    by_cases hc : f k = true ∨ k + 1 = c
    · rw [if_pos hc] at h
      rcases hend with hend | hend
      · have hl : L b (k + 1) < 1000000 := by
          by_cases q : L b (k + 1) < 1000000
          · exact q
          · rw [if_neg q] at h; cases h
        rw [if_pos hl] at h
        obtain ⟨y', e1, e2⟩ := Option.map_eq_some_iff.mp h
        by_cases hk : k = i
        · subst hk
          rw [show m = c - (k + 1) by omega] at e1
          exact ⟨n + 1, _, y', hend, e1, by omega⟩
        · obtain ⟨n1, y1, y2, a1, a2, a3⟩ := ih (k + 1) (k + 1) (n + 1) _ y' (by omega) (by omega) (Nat.le_refl _) hend e1
          exact ⟨n1, y1, y2, a1, a2, by omega⟩
      · rw [if_neg hend] at h; cases h
    · rw [if_neg hc] at h
      have hk : k ≠ i := by
        intro q
        subst q
        exact hc (Or.inl hf)
      exact ih (k + 1) b n y0 y (by omega) (by omega) (by omega) hp h
theorem th_brk_join {L : Nat → Nat → Int} {c : Nat} : ∀ (n q : Nat) (y1 y2 : Int) (g : Nat → Bool), th_PP L n q y1 → q < c → th_tl L c g (c - q) q q = some y2 → ∃ f : Nat → Bool, (∀ j, q ≤ j → f j = g j) ∧ (0 < q → f (q - 1) = true) ∧ th_tl L c f c 0 0 = some (y1 + y2) := by
  intro n
  induction n with
  | zero =>
    intro q y1 y2 g h _ hg
    obtain ⟨h1, h2⟩ := h
    subst h1; subst h2
    exact ⟨g, fun _ _ => rfl, fun q => by omega, by rw [Int.zero_add]; exact hg⟩
  | succ n ih =>
    intro q y1 y2 g h hq hg
    obtain ⟨p, h1, h3, h4⟩ := h
    have e := th_ext_tl (g := g) h1 (by omega) h3 hg
    obtain ⟨f, f1, f2, f3⟩ := ih p _ _ (th_ext q g) h4 (by omega) e.1
    refine ⟨f, fun j hj => ?_, fun _ => ?_, ?_⟩
    · rw [f1 j (by omega)]; unfold th_ext; rw [if_neg (by omega), if_neg (by omega)]
    · rw [f1 (q - 1) (by omega)]; unfold th_ext; rw [if_neg (by omega), if_pos (by omega)]
    · rw [f3]; congr 1; omega
theorem th_costBreaking {s : Par} (h : pb_Ok s) (i : Int) : ma_costBreaking s i = xa_costBreaking s i := by
  unfold ma_costBreaking xa_costBreaking
  by_cases hi : i < 0 ∨ (s.c : Int) - 1 ≤ i
  · rw [if_pos hi, if_pos hi]
  · rw [if_neg hi, if_neg hi]
    obtain ⟨j, hj⟩ : ∃ j : Nat, i = (j : Int) := ⟨i.toNat, by omega⟩
    subst hj
    rw [Int.toNat_natCast]
    have hL : th_Lb (pb_L s) s.c := th_lb_of h (-1)
    have hc10 := h.2.2.1
    have hb := th_be_spec hL s.c (j + 1) (by omega) (by omega)
    have hu := th_up_spec hL (j + 1) (j + 1) (Nat.le_refl _) (by omega)
    have bu : pb_up (pb_L s) (j + 1) < 1000000 → -400 ≤ pb_up (pb_L s) (j + 1) ∧ pb_up (pb_L s) (j + 1) ≤ 37400 := fun q => by
      obtain ⟨n, hn⟩ := hu.2 q
      have := th_PP_bd hL _ _ _ hn (by omega)
      omega
    have bb := th_be_bd hL (j + 1)
    have e : ma_costB s (fun set => decide (pb_bt set j = 1)) = pb_far (if pb_up (pb_L s) (j + 1) < 1000000 ∧ pb_be (pb_L s) s.c (j + 1) < 1000000 then pb_up (pb_L s) (j + 1) + pb_be (pb_L s) s.c (j + 1) else 1000000) := by
      refine th_costB (fun a a1 a2 ha => ?_) (fun hx => ?_) (th_co_lt h)
      · rcases th_co h a with ⟨-, e⟩ | ⟨y, e1, e2, -, -⟩
        · exact absurd e ha
        · rw [e2]
          obtain ⟨n1, y1, y2, b1, b2, b3⟩ := th_brk_cut (i := j) (f := th_fS a) a2 (by omega) s.c 0 0 0 0 y (by omega) (by omega) (Nat.le_refl 0) ⟨rfl, rfl⟩ e1
          have i1 := hu.1 _ _ b1
          have p2 := th_tl_path s.c (s.c - (j + 1)) (j + 1) y2 (by omega) (by omega) b2
          have i2 := hb.1 _ _ p2
          have d1 := th_PP_bd hL _ _ _ b1 (by omega)
          have d2 := th_PR_bd hL _ _ _ p2
          have g1 : pb_up (pb_L s) (j + 1) ≤ y1 := i1
          have g2 : pb_be (pb_L s) s.c (j + 1) ≤ y2 := i2
          rw [if_pos ⟨by omega, by omega⟩]
          omega
      · by_cases hq : pb_up (pb_L s) (j + 1) < 1000000 ∧ pb_be (pb_L s) s.c (j + 1) < 1000000
        · rw [if_pos hq]
          obtain ⟨n1, hn1⟩ := hu.2 hq.1
          obtain ⟨n2, hn2⟩ := hb.2 hq.2
          obtain ⟨g, g1, -⟩ := th_path_tl _ _ _ hn2
          obtain ⟨f, f1, f2, f3⟩ := th_brk_join _ _ _ _ g hn1 (by omega) g1
          obtain ⟨set, a1, a2⟩ := th_bits (s.c - 1) f
          have hcg := th_tl_congr (L := pb_L s) (c := s.c) (f := th_fS set) (g := f) s.c 0 0 (by omega) (fun j _ b => a2 j (by omega))
          have hset : th_fS set j = true := by rw [a2 j (by omega)]; exact f2 (by omega)
          have hbu := bu hq.1
          have hbb : -400 ≤ pb_be (pb_L s) s.c (j + 1) := bb.1
          rcases th_co h set with ⟨e, -⟩ | ⟨y, e1, e2, -, -⟩
          · rw [hcg.1, f3] at e; cases e
          · rw [hcg.1, f3] at e1
            exact ⟨set, by rw [th_sets]; exact a1, hset, by rw [e2]; exact (Option.some.inj e1).symm, by omega⟩
        · rw [if_neg hq] at hx; omega
    rw [e]
    unfold pb_far
    by_cases hq : pb_up (pb_L s) (j + 1) < 1000000 ∧ pb_be (pb_L s) s.c (j + 1) < 1000000
    · have hbu := bu hq.1
      have hbb : pb_be (pb_L s) s.c (j + 1) ≤ 37400 := bb.2 hq.2
      rw [if_pos hq, if_pos hq, if_pos (by omega)]
    · rw [if_neg hq, if_neg hq, if_neg (by omega)]
/-! choices: how many sets reach the least cost -/
def th_num (P : Nat → Bool) : Nat → Int
  | 0 => 0
  | i + 1 => th_num P i + (if P i = true then 1 else 0)
theorem th_num_congr {P Q : Nat → Bool} : ∀ N, (∀ i, i < N → P i = Q i) → th_num P N = th_num Q N := by
  intro N
  induction N with
  | zero => intro _; rfl
  | succ N ih =>
    intro h
    simp only [th_num]
    rw [ih (fun i hi => h i (by omega)), h N (by omega)]
theorem th_num_2 (P : Nat → Bool) : ∀ M, th_num P (2 * M) = th_num (fun i => P (2 * i)) M + th_num (fun i => P (2 * i + 1)) M := by
  intro M
  induction M with
  | zero => rfl
  | succ M ih =>
    rw [show 2 * (M + 1) = (2 * M + 1) + 1 by omega]
    simp only [th_num]
    rw [ih]
    omega
def th_ct (L : Nat → Nat → Int) (c : Nat) : Nat → Nat → Nat → Int → Int
  | 0, _, _, x => if x = 0 then 1 else 0
  | m + 1, k, b, x => (if k + 1 = c then 0 else th_ct L c m (k + 1) b x) + (if L b (k + 1) < 1000000 then th_ct L c m (k + 1) (k + 1) (x - L b (k + 1)) else 0)
theorem th_map_some (o : Option Int) (a x : Int) : decide (o.map (fun y => a + y) = some x) = decide (o = some (x - a)) := by
  cases o with
  | none => simp
  | some y =>
    simp only [Option.map_some, Option.some.injEq]
    by_cases h : y = x - a
    · rw [decide_eq_true h]; exact decide_eq_true (by omega)
    · rw [decide_eq_false h]; exact decide_eq_false (by omega)
theorem th_num_0 {P : Nat → Bool} : ∀ N, (∀ i, i < N → P i = false) → th_num P N = 0 := by
  intro N
  induction N with
  | zero => intro _; rfl
  | succ N ih =>
    intro h
    simp only [th_num]
    rw [ih (fun i hi => h i (by omega)), h N (by omega)]
    simp
theorem th_count {L : Nat → Nat → Int} {c : Nat} : ∀ (m k b : Nat) (x : Int), k + m = c → th_num (fun set => decide (th_tl L c (fun j => th_fS set (j - k)) m k b = some x)) (2 ^ (m - 1)) = th_ct L c m k b x := by
  intro m
  induction m with
  | zero =>
    intro k b x _
    simp only [Nat.zero_sub, Nat.pow_zero, th_num, th_tl, th_ct]
    by_cases h : x = 0
    · subst h; simp
    · rw [if_neg h, if_neg (by simp; omega)]; rfl
  | succ m ih =>
    intro k b x h
    simp only [th_ct]
    by_cases hk : k + 1 = c
    · have hm : m = 0 := by omega
      subst hm
      rw [if_pos hk]
      simp only [Nat.zero_add, Nat.sub_self, Nat.pow_zero, th_num, th_tl, th_ct]
      rw [if_pos (Or.inr hk)]
      by_cases hl : L b (k + 1) < 1000000
      · rw [if_pos hl, if_pos hl]
        simp only [Option.map_some, Option.some.injEq, decide_eq_true_eq]
        by_cases hx : x - L b (k + 1) = 0
        · rw [if_pos hx, if_pos (by omega)]
        · rw [if_neg hx, if_neg (by omega)]
      · rw [if_neg hl, if_neg hl]
        simp
    · rw [if_neg hk]
      have hm : 0 < m := by omega
      rw [show m + 1 - 1 = (m - 1) + 1 by omega, Nat.pow_succ, Nat.mul_comm, th_num_2]
      have t1 : ∀ i, th_tl L c (fun j => th_fS (2 * i) (j - k)) (m + 1) k b = th_tl L c (fun j => th_fS i (j - (k + 1))) m (k + 1) b := by
        intro i
        simp only [th_tl]
        have hc : ¬ (th_fS (2 * i) (k - k) = true ∨ k + 1 = c) := by
          intro q
          rcases q with q | q
          · have := of_decide_eq_true q
            rw [Nat.sub_self, th_bt_0] at this
            omega
          · exact hk q
        rw [if_neg hc, (th_tl_congr (L := L) (c := c) (f := fun j => th_fS (2 * i) (j - k)) (g := fun j => th_fS i (j - (k + 1))) m (k + 1) b (by omega) (fun j a _ => by
          show th_fS (2 * i) (j - k) = th_fS i (j - (k + 1))
          unfold th_fS
          rw [show j - k = (j - (k + 1)) + 1 by omega, th_bt_s, show 2 * i / 2 = i by omega])).1]
      have e1 : ∀ i, decide (th_tl L c (fun j => th_fS (2 * i) (j - k)) (m + 1) k b = some x) = decide (th_tl L c (fun j => th_fS i (j - (k + 1))) m (k + 1) b = some x) := fun i => by rw [t1 i]
      have t2 : ∀ i, th_tl L c (fun j => th_fS (2 * i + 1) (j - k)) (m + 1) k b = (if L b (k + 1) < 1000000 then (th_tl L c (fun j => th_fS i (j - (k + 1))) m (k + 1) (k + 1)).map (fun y => L b (k + 1) + y) else none) := by
        intro i
        simp only [th_tl]
        have hc : th_fS (2 * i + 1) (k - k) = true ∨ k + 1 = c := by
          left
          refine decide_eq_true ?_
          rw [Nat.sub_self, th_bt_0]
          omega
        rw [if_pos hc, (th_tl_congr (L := L) (c := c) (f := fun j => th_fS (2 * i + 1) (j - k)) (g := fun j => th_fS i (j - (k + 1))) m (k + 1) (k + 1) (by omega) (fun j a _ => by
          show th_fS (2 * i + 1) (j - k) = th_fS i (j - (k + 1))
          unfold th_fS
          rw [show j - k = (j - (k + 1)) + 1 by omega, th_bt_s, show (2 * i + 1) / 2 = i by omega])).1]
      have e2 : ∀ i, decide (th_tl L c (fun j => th_fS (2 * i + 1) (j - k)) (m + 1) k b = some x) = (if L b (k + 1) < 1000000 then decide (th_tl L c (fun j => th_fS i (j - (k + 1))) m (k + 1) (k + 1) = some (x - L b (k + 1))) else false) := by
        intro i
        by_cases hl : L b (k + 1) < 1000000
        · rw [t2 i, if_pos hl, if_pos hl]; exact th_map_some _ _ _
        · rw [t2 i, if_neg hl, if_neg hl]; simp
      rw [th_num_congr _ (fun i _ => e1 i), ih (k + 1) b x (by omega)]
      congr 1
      by_cases hl : L b (k + 1) < 1000000
      · rw [if_pos hl, ← ih (k + 1) (k + 1) (x - L b (k + 1)) (by omega)]
        exact th_num_congr _ (fun i _ => by rw [e2 i, if_pos hl])
      · rw [if_neg hl]
        exact th_num_0 _ (fun i _ => by rw [e2 i, if_neg hl])
/-- g q + g (q + 1) + .. (j of them) -/
def th_sl (g : Nat → Int) : Nat → Nat → Int
  | 0, _ => 0
  | j + 1, q => g q + th_sl g j (q + 1)
theorem th_sl_last (g : Nat → Int) : ∀ j q, th_sl g (j + 1) q = th_sl g j q + g (q + j) := by
  intro j
  induction j with
  | zero => intro q; simp [th_sl]
  | succ j ih =>
    intro q
    have := ih (q + 1)
    simp only [th_sl] at this ⊢
    rw [this, show q + 1 + j = q + (j + 1) by omega]
    omega
theorem th_sl_congr {g h : Nat → Int} : ∀ j q, (∀ i, q ≤ i → i < q + j → g i = h i) → th_sl g j q = th_sl h j q := by
  intro j
  induction j with
  | zero => intro q _; rfl
  | succ j ih =>
    intro q e
    simp only [th_sl]
    rw [e q (by omega) (by omega), ih (q + 1) (fun i a b => e i (by omega) (by omega))]
theorem th_sl_0 {g : Nat → Int} : ∀ j q, (∀ i, q ≤ i → i < q + j → g i = 0) → th_sl g j q = 0 := by
  intro j
  induction j with
  | zero => intro q _; rfl
  | succ j ih =>
    intro q e
    simp only [th_sl]
    rw [e q (by omega) (by omega), ih (q + 1) (fun i a b => e i (by omega) (by omega))]
    rfl
/-- how many paths from p cost x -/
def th_CP (L : Nat → Nat → Int) (c p : Nat) (x : Int) : Int := th_ct L c (c - p) p p x
theorem th_ct_sl {L : Nat → Nat → Int} {c : Nat} : ∀ (m k b : Nat) (x : Int), k + m = c → 0 < m → th_ct L c m k b x = th_sl (fun q => if L b q < 1000000 then th_CP L c q (x - L b q) else 0) m (k + 1) := by
  intro m
  induction m with
  | zero => intro k b x _ h; omega
  | succ m ih =>
    intro k b x h1 _
    simp only [th_ct, th_sl]
    have e : th_CP L c (k + 1) (x - L b (k + 1)) = th_ct L c m (k + 1) (k + 1) (x - L b (k + 1)) := by
      unfold th_CP
      rw [show c - (k + 1) = m by omega]
    rw [e]
    by_cases hk : k + 1 = c
    · have hm : m = 0 := by omega
      subst hm
      rw [if_pos hk]
      simp [th_sl]
    · rw [if_neg hk, ih (k + 1) b x (by omega) (by omega)]
      omega
theorem th_fb_snd {L B Y : Nat → Int} {p : Nat} (hs : ∀ q, p < q → L q < 1000000 → B q < 1000000 → L q + B q < 1000000) : ∀ k, (pb_fb L B Y p 1000000 0 k).2 = th_sl (fun q => if L q < 1000000 ∧ B q < 1000000 ∧ L q + B q = pb_lo L B p k then Y q else 0) k (p + 1) := by
  intro k
  induction k with
  | zero => rfl
  | succ k ih =>
    have hf := th_fb_fst (L := L) (B := B) (Y := Y) (p := p) (y0 := 0) k
    rw [th_sl_last, show p + 1 + k = p + k + 1 by omega]
    by_cases h1 : L (p + k + 1) < 1000000 ∧ B (p + k + 1) < 1000000
    · by_cases h2 : L (p + k + 1) + B (p + k + 1) < pb_lo L B p k
      · have e1 : pb_lo L B p (k + 1) = L (p + k + 1) + B (p + k + 1) := by
          simp only [pb_lo]
          rw [if_pos ⟨h1.1, h1.2, h2⟩]
        have e2 : (pb_fb L B Y p 1000000 0 (k + 1)).2 = Y (p + k + 1) := by
          simp only [pb_fb]
          rw [if_pos h1, hf, if_pos h2]
        rw [e1, e2, if_pos ⟨h1.1, h1.2, rfl⟩, th_sl_0, Int.zero_add]
        intro i a b
        rw [if_neg]
        rintro ⟨q1, q2, q3⟩
        have := th_lo_le (L := L) (R := B) (p := p) (k := k) (q := i) (by omega) (by omega) q1 q2
        omega
      · have n1 : ¬ (L (p + k + 1) < 1000000 ∧ B (p + k + 1) < 1000000 ∧ L (p + k + 1) + B (p + k + 1) < pb_lo L B p k) := fun q => h2 q.2.2
        have e1 : pb_lo L B p (k + 1) = pb_lo L B p k := by
          simp only [pb_lo]
          rw [if_neg n1]
        have e2 : (pb_fb L B Y p 1000000 0 (k + 1)).2 = (pb_fb L B Y p 1000000 0 k).2 + (if L (p + k + 1) + B (p + k + 1) = pb_lo L B p k then Y (p + k + 1) else 0) := by
          simp only [pb_fb]
          rw [if_pos h1, hf, if_neg h2]
        rw [e1, e2, ih]
        congr 1
        by_cases h3 : L (p + k + 1) + B (p + k + 1) = pb_lo L B p k
        · rw [if_pos h3, if_pos ⟨h1.1, h1.2, h3⟩]
        · have n3 : ¬ (L (p + k + 1) < 1000000 ∧ B (p + k + 1) < 1000000 ∧ L (p + k + 1) + B (p + k + 1) = pb_lo L B p k) := fun q => h3 q.2.2
          rw [if_neg h3, if_neg n3]
    · have n1 : ¬ (L (p + k + 1) < 1000000 ∧ B (p + k + 1) < 1000000 ∧ L (p + k + 1) + B (p + k + 1) < pb_lo L B p k) := fun q => h1 ⟨q.1, q.2.1⟩
      have n3 : ¬ (L (p + k + 1) < 1000000 ∧ B (p + k + 1) < 1000000 ∧ L (p + k + 1) + B (p + k + 1) = pb_lo L B p k) := fun q => h1 ⟨q.1, q.2.1⟩
      have e1 : pb_lo L B p (k + 1) = pb_lo L B p k := by
        simp only [pb_lo]
        rw [if_neg n1]
      have e2 : (pb_fb L B Y p 1000000 0 (k + 1)).2 = (pb_fb L B Y p 1000000 0 k).2 := by
        simp only [pb_fb]
        rw [if_neg h1]
      rw [e1, e2, ih, if_neg n3, Int.add_zero]
theorem th_CP_c (L : Nat → Nat → Int) (c : Nat) (x : Int) : th_CP L c c x = if x = 0 then 1 else 0 := by
  unfold th_CP
  rw [Nat.sub_self]
  rfl
theorem th_CP_spec {L : Nat → Nat → Int} {c : Nat} (hL : th_Lb L c) : ∀ N p, c - p ≤ N → p ≤ c → (∀ y, y < pb_be L c p ∨ 1000000 ≤ pb_be L c p → th_CP L c p y = 0) ∧ (pb_be L c p < 1000000 → th_CP L c p (pb_be L c p) = pb_wy L c p) ∧ (1000000 ≤ pb_be L c p → pb_wy L c p = 0) := by
  intro N
  induction N with
  | zero =>
    intro p h1 h2
    have e : p = c := by omega
    subst e
    rw [(th_be_c L p).1, (th_be_c L p).2]
    refine ⟨fun y hy => ?_, fun _ => ?_, fun q => by omega⟩
    · rw [th_CP_c, if_neg (by omega)]
    · rw [th_CP_c, if_pos rfl]
  | succ N ih =>
    intro p h1 h2
    by_cases hp : p = c
    · exact ih p (by omega) h2
    · have hlo := th_be_lo L c p (by omega)
      have hlc : ∀ q, p < q → q ≤ c → -40 ≤ L p q ∧ (L p q < 1000000 → L p q ≤ 3740) := fun q a b => by rcases hL.2 p q a b with e | e <;> omega
      have hcp : ∀ x, th_CP L c p x = th_sl (fun q => if L p q < 1000000 then th_CP L c q (x - L p q) else 0) (c - p) (p + 1) := fun x => th_ct_sl (c - p) p p x (by omega) (by omega)
      have hle : ∀ q, p < q → q ≤ c → L p q < 1000000 → pb_be L c q < 1000000 → pb_be L c p ≤ L p q + pb_be L c q ∧ L p q + pb_be L c q < 1000000 := fun q a b d e => by
        rw [hlo]
        have := (th_be_bd hL q).2 e
        have := (hlc q a b).2 d
        exact ⟨th_lo_le a (by omega) d e, by omega⟩
      have hwy : pb_wy L c p = th_sl (fun q => if L p q < 1000000 ∧ pb_be L c q < 1000000 ∧ L p q + pb_be L c q = pb_be L c p then pb_wy L c q else 0) (c - p) (p + 1) := by
        rw [(th_be_rec L c p (by omega)).2]
        have e : ∀ i, p + 1 ≤ i → i < p + 1 + (c - p) → True := fun _ _ _ => trivial
        rw [hlo]
        have hcut := th_fb_congr (L := L p) (B := pb_be L c) (Y := pb_wy L c) (B' := fun q => if q ≤ c then pb_be L c q else 1000000) (Y' := pb_wy L c) (p := p) (b0 := 1000000) (y0 := 0) (c - p) (fun q a b => by rw [if_pos (by omega)]) (fun q a b => rfl)
        have hlo2 : pb_lo (L p) (pb_be L c) p (c - p) = pb_lo (L p) (fun q => if q ≤ c then pb_be L c q else 1000000) p (c - p) := by
          rw [← th_fb_fst (Y := pb_wy L c) (y0 := 0), ← th_fb_fst (Y := pb_wy L c) (y0 := 0), hcut]
        rw [hcut, th_fb_snd (fun q a b d => by
          by_cases hq : q ≤ c
          · rw [if_pos hq] at d ⊢
            exact (hle q a hq b d).2
          · rw [if_neg hq] at d; omega), ← hlo2]
        exact th_sl_congr _ _ (fun i a b => by rw [if_pos (show i ≤ c by omega)])
      refine ⟨fun y hy => ?_, fun hb => ?_, fun hb => ?_⟩
      · rw [hcp]
        refine th_sl_0 _ _ (fun q a b => ?_)
        by_cases hq : L p q < 1000000
        · rw [if_pos hq]
          refine (ih q (by omega) (by omega)).1 _ ?_
          by_cases hbq : pb_be L c q < 1000000
          · have := hle q (by omega) (by omega) hq hbq
            omega
          · right; omega
        · rw [if_neg hq]
      · rw [hcp, hwy]
        refine th_sl_congr _ _ (fun q a b => ?_)
        by_cases hq : L p q < 1000000
        · rw [if_pos hq]
          have i := ih q (by omega) (by omega)
          by_cases hbq : pb_be L c q < 1000000
          · have hl := hle q (by omega) (by omega) hq hbq
            by_cases he : L p q + pb_be L c q = pb_be L c p
            · rw [if_pos ⟨hq, hbq, he⟩, ← he, show L p q + pb_be L c q - L p q = pb_be L c q by omega]
              exact i.2.1 hbq
            · rw [if_neg (fun z => he z.2.2)]
              exact i.1 _ (Or.inl (by omega))
          · rw [if_neg (fun z => hbq z.2.1)]
            exact i.1 _ (Or.inr (by omega))
        · rw [if_neg hq, if_neg (fun z => hq z.1)]
      · rw [hwy]
        refine th_sl_0 _ _ (fun q a b => ?_)
        rw [if_neg]
        rintro ⟨z1, z2, z3⟩
        have := hle q (by omega) (by omega) z1 z2
        omega
theorem th_ch (s : Par) (v : Int) : ∀ N, ma_ch s v N = th_num (fun i => decide (ma_co s i = v)) N := by
  intro N
  induction N with
  | zero => rfl
  | succ N ih =>
    simp only [ma_ch, th_num]
    by_cases h : ma_co s N = v
    · rw [if_pos h, if_pos (decide_eq_true h), ih]
    · rw [if_neg h, if_neg (by simp [h]), ih, Int.add_zero]
theorem th_choices {s : Par} (h : pb_Ok s) : ma_choices s = xa_choices s := by
  have hL : th_Lb (pb_L s) s.c := th_lb_of h (-1)
  have hcp := th_CP_spec hL s.c 0 (by omega) (by omega)
  have hbd := th_be_bd hL 0
  unfold ma_choices xa_choices
  rw [th_cost h]
  unfold xa_cost pb_far
  by_cases hb : pb_be (pb_L s) s.c 0 < 1000000
  · have hlow : -400 ≤ pb_be (pb_L s) s.c 0 := hbd.1
    rw [if_pos hb, if_neg (by omega), th_ch, th_sets, ← hcp.2.1 hb]
    unfold th_CP
    rw [Nat.sub_zero, ← th_count s.c 0 0 _ (by omega)]
    refine th_num_congr _ (fun i _ => ?_)
    show decide (ma_co s i = pb_be (pb_L s) s.c 0) = decide (th_tl (pb_L s) s.c (th_fS i) s.c 0 0 = some (pb_be (pb_L s) s.c 0))
    rcases th_co h i with ⟨e1, e2⟩ | ⟨y, e1, e2, -, -⟩
    · rw [e1, decide_eq_false (by rw [e2]; omega)]; simp
    · rw [e1, e2]; simp
  · rw [if_neg hb, if_pos rfl]
    exact (hcp.2.2 (by show 1000000 ≤ pb_be (pb_L s) s.c 0; omega)).symm
end
section
/-! THE PLAIN LAW, 4: the best breaking: fewest lines, then the earliest ends -/
theorem th_FW {s : Par} (h : pb_Ok s) : (pb_FW s = -1 ∧ 1000000 ≤ pb_be (pb_L s) s.c 0) ∨ ∃ n : Nat, pb_FW s = (n : Int) ∧ n ≤ 10 ∧ pb_on (pb_L s) s.c n 0 < 1000000 ∧ pb_on (pb_L s) s.c n 0 = pb_be (pb_L s) s.c 0 ∧ ∀ j, j < n → pb_on (pb_L s) s.c j 0 ≠ pb_be (pb_L s) s.c 0 := by
  have hL : th_Lb (pb_L s) s.c := th_lb_of h (-1)
  have hb := th_be_on hL (p := 0) (by omega)
  rcases th_fw_spec (fun n => pb_on (pb_L s) s.c n 0) (pb_be (pb_L s) s.c 0) 11 0 with ⟨a1, a2⟩ | ⟨m, a1, a2, a3, a4, a5, a6⟩
  · refine Or.inl ⟨a1, ?_⟩
    by_cases q : pb_be (pb_L s) s.c 0 < 1000000
    · obtain ⟨n, n1, n2⟩ := hb.2 q
      exact absurd ⟨by show pb_on (pb_L s) s.c n 0 < 1000000; omega, n2⟩ (a2 n (by omega) (by omega))
    · omega
  · refine Or.inr ⟨m, a1, by omega, a4, a5, fun j hj e => ?_⟩
    have a4' : pb_on (pb_L s) s.c m 0 < 1000000 := a4
    have a5' : pb_on (pb_L s) s.c m 0 = pb_be (pb_L s) s.c 0 := a5
    exact a6 j (by omega) hj ⟨by show pb_on (pb_L s) s.c j 0 < 1000000; omega, e⟩
theorem th_FE {s : Par} {r p : Nat} (h : pb_on (pb_L s) s.c (r + 1) p < 1000000) : p < pb_FE s (r + 1) p ∧ pb_FE s (r + 1) p ≤ s.c ∧ pb_L s p (pb_FE s (r + 1) p) < 1000000 ∧ pb_on (pb_L s) s.c r (pb_FE s (r + 1) p) < 1000000 ∧ pb_L s p (pb_FE s (r + 1) p) + pb_on (pb_L s) s.c r (pb_FE s (r + 1) p) = pb_on (pb_L s) s.c (r + 1) p ∧ ∀ j, p < j → j < pb_FE s (r + 1) p → ¬ (pb_L s p j < 1000000 ∧ pb_on (pb_L s) s.c r j < 1000000 ∧ pb_L s p j + pb_on (pb_L s) s.c r j = pb_on (pb_L s) s.c (r + 1) p) := by
  have e : pb_on (pb_L s) s.c (r + 1) p = pb_lo (pb_L s p) (pb_on (pb_L s) s.c r) p (s.c - p) := by simp only [pb_on]
  obtain ⟨q, b1, b2, b3, b4, b5⟩ := th_lo_at (by rw [← e]; exact h)
  unfold pb_FE
  rw [show r + 1 - 1 = r by omega]
  rcases th_fe_spec (pb_L s p) (pb_on (pb_L s) s.c r) (pb_on (pb_L s) s.c (r + 1) p) s.c (s.c - p) (p + 1) with ⟨a1, a2⟩ | ⟨m, a1, a2, a3, a4, a5⟩
  · exact absurd ⟨b3, b4, by rw [e, b5]⟩ (a2 q (by omega) (by omega))
  · rw [a1]
    exact ⟨by omega, by omega, a4.1, a4.2.1, a4.2.2, fun j c1 c2 => a5 j (by omega) c2⟩
/-- the component's breaking as a set, r lines from p on -/
def th_gr (s : Par) : Nat → Nat → Nat → Bool
  | 0, _ => fun _ => false
  | r + 1, p => th_ext (pb_FE s (r + 1) p) (th_gr s r (pb_FE s (r + 1) p))
theorem th_gr_tl {s : Par} : ∀ r p, pb_on (pb_L s) s.c r p < 1000000 → th_tl (pb_L s) s.c (th_gr s r p) (s.c - p) p p = some (pb_on (pb_L s) s.c r p) ∧ th_ec s.c (th_gr s r p) (s.c - p) p = r := by
  intro r
  induction r with
  | zero =>
    intro p h
    have e : p = s.c := by
      by_cases q : p = s.c
      · exact q
      · simp only [pb_on] at h; rw [if_neg q] at h; omega
    subst e
    simp only [pb_on]
    rw [Nat.sub_self, if_pos trivial]
    exact ⟨rfl, rfl⟩
  | succ r ih =>
    intro p h
    obtain ⟨f1, f2, f3, f4, f5, -⟩ := th_FE h
    obtain ⟨i1, i2⟩ := ih _ f4
    have e := th_ext_tl f1 f2 f3 i1
    rw [f5] at e
    refine ⟨e.1, ?_⟩
    show th_ec s.c (th_ext (pb_FE s (r + 1) p) (th_gr s r (pb_FE s (r + 1) p))) (s.c - p) p = r + 1
    rw [e.2, i2]
theorem th_lex {s : Par} (h : pb_Ok s) (f : Nat → Bool) : ∀ r p, r ≤ 10 → pb_on (pb_L s) s.c r p < 1000000 → th_tl (pb_L s) s.c f (s.c - p) p p = some (pb_on (pb_L s) s.c r p) → th_ec s.c f (s.c - p) p = r →
    (∀ j, p ≤ j → j + 1 < s.c → f j = th_gr s r p j) ∨ ∃ k, p ≤ k ∧ k + 1 < s.c ∧ (∀ j, p ≤ j → j < k → f j = th_gr s r p j) ∧ th_gr s r p k = true ∧ f k = false := by
  have hL : th_Lb (pb_L s) s.c := th_lb_of h (-1)
  intro r
  induction r with
  | zero =>
    intro p _ h1 _ _
    have e : p = s.c := by
      by_cases q : p = s.c
      · exact q
      · simp only [pb_on] at h1; rw [if_neg q] at h1; omega
    exact Or.inl (fun j a b => by omega)
  | succ r ih =>
    intro p hr h1 h2 h3
    obtain ⟨f1, f2, f3, f4, f5, f6⟩ := th_FE h1
    obtain ⟨q, m', y', a1, a2, a3, a4, a5, a6, a7, a8⟩ := th_tl_next (s.c - p) p p _ (by omega) (by omega) h2
    have hm : m' = s.c - q := by omega
    subst hm
    have hec : th_ec s.c f (s.c - q) q = r := by omega
    have hp := th_tl_path (s.c - q) (s.c - q) q y' (Nat.le_refl _) (by omega) a6
    rw [hec] at hp
    have b1 := (th_on_spec hL r (by omega) q).1 _ hp
    have b2 := th_PR_bd hL _ _ _ hp
    have e : pb_on (pb_L s) s.c (r + 1) p = pb_lo (pb_L s p) (pb_on (pb_L s) s.c r) p (s.c - p) := by simp only [pb_on]
    have b3 := th_lo_le (L := pb_L s p) (R := pb_on (pb_L s) s.c r) (p := p) (k := s.c - p) a1 (by omega) a5 (by omega)
    have b4 : y' = pb_on (pb_L s) s.c r q := by omega
    have hge : pb_FE s (r + 1) p ≤ q := by
      apply Nat.not_lt.mp
      intro hlt
      exact f6 q a1 hlt ⟨a5, by omega, by omega⟩
    have gz : ∀ j, j + 1 < pb_FE s (r + 1) p → th_gr s (r + 1) p j = false := fun j hj => by
      show th_ext _ _ j = false
      unfold th_ext
      rw [if_pos hj]
    have g1 : ∀ j, j + 1 = pb_FE s (r + 1) p → th_gr s (r + 1) p j = true := fun j hj => by
      show th_ext _ _ j = true
      unfold th_ext
      rw [if_neg (by omega), if_pos hj]
    have gh : ∀ j, pb_FE s (r + 1) p ≤ j → th_gr s (r + 1) p j = th_gr s r (pb_FE s (r + 1) p) j := fun j hj => by
      show th_ext _ _ j = _
      unfold th_ext
      rw [if_neg (by omega), if_neg (by omega)]
    generalize pb_FE s (r + 1) p = q0 at *
    rcases Nat.lt_or_ge q0 q with hlt | hle
    · refine Or.inr ⟨q0 - 1, by omega, by omega, fun j c1 c2 => ?_, g1 _ (by omega), a3 _ (by omega) (by omega)⟩
      rw [gz j (by omega)]
      exact a3 j c1 (by omega)
    · have eq : q = q0 := by omega
      subst eq
      rw [b4] at a6
      have low : ∀ j, p ≤ j → j < q → j + 1 < s.c → f j = th_gr s (r + 1) p j := fun j c1 c2 c3 => by
        by_cases c4 : j + 1 < q
        · rw [gz j c4]; exact a3 j c1 c4
        · rw [g1 j (by omega)]
          rcases a4 with z | z
          · rw [show q - 1 = j by omega] at z; exact z
          · omega
      rcases ih q (by omega) f4 a6 hec with z | ⟨k, z1, z2, z3, z4, z5⟩
      · refine Or.inl (fun j c1 c2 => ?_)
        by_cases c3 : j < q
        · exact low j c1 c3 c2
        · rw [gh j (by omega)]; exact z j (by omega) c2
      · refine Or.inr ⟨k, by omega, z2, fun j c1 c2 => ?_, by rw [gh k (by omega)]; exact z4, z5⟩
        by_cases c3 : j < q
        · exact low j c1 c3 (by omega)
        · rw [gh j (by omega)]; exact z3 j (by omega) c2
theorem th_bk {a b : Nat} {k : Nat} (hk : pb_bt a k ≠ pb_bt b k) : ∀ m i, i ≤ k → k < i + m → (∀ j, i ≤ j → j < k → pb_bt a j = pb_bt b j) → ma_bk a b m i = decide (pb_bt a k = 1) := by
  intro m
  induction m with
  | zero => intro i h1 h2; omega
  | succ m ih =>
    intro i h1 h2 h3
    simp only [ma_bk]
    by_cases hi : i = k
    · subst hi; rw [if_neg hk]
    · rw [if_pos (h3 i (by omega) (by omega))]
      exact ih (i + 1) (by omega) (by omega) (fun j c1 c2 => h3 j (by omega) c2)
theorem th_bs_g {s : Par} {g : Nat} (hg : g < ma_sets s) (hf : ma_co s g ≠ -1000000) (hb : ∀ j, j < ma_sets s → j ≠ g → ma_co s j ≠ -1000000 → ma_co s g < ma_co s j ∨ (ma_co s g = ma_co s j ∧ ma_bf s g j = true ∧ ma_bf s j g = false)) : ∀ d, g + 1 + d ≤ ma_sets s → ma_bs s ma_all (g + 1 + d) = ((g : Int), ma_co s g) := by
  have hv : ∀ i, ma_val s ma_all i = ma_co s i := fun i => by unfold ma_val; rw [if_pos rfl]
  intro d
  induction d with
  | zero =>
    intro _
    have hc : ma_val s ma_all g ≠ -1000000 ∧ ((ma_bs s ma_all g).1 < 0 ∨ ma_val s ma_all g < (ma_bs s ma_all g).2 ∨ (ma_val s ma_all g = (ma_bs s ma_all g).2 ∧ ma_bf s g (ma_bs s ma_all g).1.toNat = true)) := by
      refine ⟨by rw [hv]; exact hf, ?_⟩
      rcases th_bs s ma_all g with ⟨a1, -⟩ | ⟨j, a1, a2, a3, a4, -⟩
      · left; omega
      · right
        rw [hv] at a3 a4
        rw [hv, a3, a2, Int.toNat_natCast]
        rcases hb j (by omega) (by omega) a4 with z | ⟨z1, z2, -⟩
        · exact Or.inl z
        · exact Or.inr ⟨z1, z2⟩
    simp only [Nat.add_zero, ma_bs]
    rw [if_pos hc, hv]
  | succ d ih =>
    intro hle
    have i1 := ih (by omega)
    have hc : ¬ (ma_val s ma_all (g + 1 + d) ≠ -1000000 ∧ ((ma_bs s ma_all (g + 1 + d)).1 < 0 ∨ ma_val s ma_all (g + 1 + d) < (ma_bs s ma_all (g + 1 + d)).2 ∨ (ma_val s ma_all (g + 1 + d) = (ma_bs s ma_all (g + 1 + d)).2 ∧ ma_bf s (g + 1 + d) (ma_bs s ma_all (g + 1 + d)).1.toNat = true))) := by
      rw [hv, i1]
      rintro ⟨z1, z2⟩
      dsimp only at z2
      rw [Int.toNat_natCast] at z2
      rcases hb (g + 1 + d) (by omega) (by omega) z1 with y | ⟨y1, y2, y3⟩
      · rcases z2 with z | z | z <;> omega
      · rcases z2 with z | z | z
        · omega
        · omega
        · rw [y3] at z; exact absurd z.2 (by simp)
    rw [show g + 1 + (d + 1) = (g + 1 + d) + 1 by omega]
    simp only [ma_bs]
    rw [if_neg hc]
    exact i1
/-- the reference's best set is the component's breaking -/
theorem th_best {s : Par} (h : pb_Ok s) {n : Nat} (hn : n ≤ 10) (hf : pb_on (pb_L s) s.c n 0 < 1000000) (hb : pb_on (pb_L s) s.c n 0 = pb_be (pb_L s) s.c 0) (hm : ∀ j, j < n → pb_on (pb_L s) s.c j 0 ≠ pb_be (pb_L s) s.c 0) : ∃ g : Nat, ma_best s ma_all = (g : Int) ∧ g < ma_sets s ∧ ma_cn s g = n ∧ ∀ j, j + 1 < s.c → th_fS g j = th_gr s n 0 j := by
  have hL : th_Lb (pb_L s) s.c := th_lb_of h (-1)
  have hc := h.2.2.1
  obtain ⟨t1, t2⟩ := th_gr_tl n 0 hf
  rw [Nat.sub_zero] at t1 t2
  obtain ⟨g, g1, g2⟩ := th_bits (s.c - 1) (th_gr s n 0)
  have hgs : g < ma_sets s := by rw [th_sets]; exact g1
  have hcg := th_tl_congr (L := pb_L s) (c := s.c) (f := th_fS g) (g := th_gr s n 0) s.c 0 0 (by omega) (fun j _ b => g2 j (by omega))
  have hcn : ma_cn s g = n := by rw [th_cn_ec hc hgs, hcg.2, t2]
  have hco : ma_co s g = pb_on (pb_L s) s.c n 0 := by
    rcases th_co h g with ⟨e, -⟩ | ⟨y, e1, e2, -, -⟩
    · rw [hcg.1, t1] at e; cases e
    · rw [hcg.1, t1] at e1
      rw [e2]
      exact (Option.some.inj e1).symm
  have hlow := th_on_low hL hn 0
  have hbe := th_be_spec hL s.c 0 (by omega) (by omega)
  have key := th_bs_g hgs (by omega) (fun j j1 j2 j3 => by
    rcases th_co h j with ⟨-, e⟩ | ⟨y, e1, e2, -, -⟩
    · exact absurd e j3
    · have hp := th_tl_path s.c s.c 0 y (Nat.le_refl _) (by omega) e1
      have hcj := th_cn_ec hc j1
      rw [← hcj] at hp
      have i1 := hbe.1 _ _ hp
      have i2 := th_PR_bd hL _ _ _ hp
      rw [hco, e2]
      by_cases hlt : pb_on (pb_L s) s.c n 0 < y
      · exact Or.inl hlt
      · right
        have ey : y = pb_on (pb_L s) s.c n 0 := by omega
        refine ⟨ey.symm, ?_⟩
        have c10 : ma_cn s j ≤ 10 := by omega
        have i3 := (th_on_spec hL _ c10 0).1 _ hp
        have i4 := (th_be_on hL (p := 0) (by omega)).1 _ c10
        have hge : n ≤ ma_cn s j := by
          apply Nat.not_lt.mp
          intro q
          exact hm _ q (by omega)
        unfold ma_bf
        rw [hcn]
        by_cases hq : n = ma_cn s j
        · rw [if_pos hq, if_pos hq.symm]
          rw [hcj] at hq
          rw [ey] at e1
          rcases th_lex h (th_fS j) n 0 hn hf (by rw [Nat.sub_zero]; exact e1) (by rw [Nat.sub_zero]; exact hq.symm) with z | ⟨k, z1, z2, z3, z4, z5⟩
          · exfalso
            apply j2
            refine th_bits_ext (s.c - 1) j g (by rw [← th_sets]; exact j1) g1 (fun i hi => ?_)
            have w1 := z i (by omega) (by omega)
            rw [← g2 i hi] at w1
            have b1 := th_bt_lt j i
            have b2 := th_bt_lt g i
            have w2 : (pb_bt j i = 1) ↔ (pb_bt g i = 1) := by
              unfold th_fS at w1
              exact decide_eq_decide.mp w1
            omega
          · have k1 : pb_bt g k = 1 := by
              rw [← g2 k (by omega)] at z4
              exact of_decide_eq_true z4
            have k2 : pb_bt j k ≠ 1 := of_decide_eq_false z5
            have k3 : ∀ i, 0 ≤ i → i < k → pb_bt j i = pb_bt g i := fun i _ hi => by
              have w1 := z3 i (by omega) hi
              rw [← g2 i (by omega)] at w1
              have b1 := th_bt_lt j i
              have b2 := th_bt_lt g i
              have w2 : (pb_bt j i = 1) ↔ (pb_bt g i = 1) := by
                unfold th_fS at w1
                exact decide_eq_decide.mp w1
              omega
            rw [th_bk (a := g) (b := j) (k := k) (by omega) 10 0 (by omega) (by omega) (fun i a b => (k3 i a b).symm), th_bk (a := j) (b := g) (k := k) (by omega) 10 0 (by omega) (by omega) k3]
            exact ⟨decide_eq_true k1, decide_eq_false k2⟩
        · rw [if_neg hq, if_neg (fun q => hq q.symm)]
          exact ⟨decide_eq_true (by omega), decide_eq_false (by omega)⟩) (ma_sets s - (g + 1)) (by omega)
  refine ⟨g, ?_, hgs, hcn, fun j hj => g2 j (by omega)⟩
  unfold ma_best
  rw [show g + 1 + (ma_sets s - (g + 1)) = ma_sets s by omega] at key
  rw [key]
theorem th_nobest {s : Par} (h : pb_Ok s) (hb : 1000000 ≤ pb_be (pb_L s) s.c 0) : ma_best s ma_all < 0 := by
  have hL : th_Lb (pb_L s) s.c := th_lb_of h (-1)
  have hbe := th_be_spec hL s.c 0 (by omega) (by omega)
  unfold ma_best
  rcases th_bs s ma_all (ma_sets s) with ⟨a1, -⟩ | ⟨j, a1, a2, a3, a4, -⟩
  · omega
  · exfalso
    unfold ma_val at a4
    rw [if_pos rfl] at a4
    rcases th_co h j with ⟨-, e⟩ | ⟨y, e1, e2, -, e4⟩
    · exact absurd e a4
    · have i1 := hbe.1 _ _ (th_tl_path s.c s.c 0 y (Nat.le_refl _) (by omega) e1)
      omega
/-- the ends of the breaking -/
theorem th_ED {s : Par} {n : Nat} (hf : pb_on (pb_L s) s.c n 0 < 1000000) : ∀ i, i ≤ n → pb_on (pb_L s) s.c (n - i) (pb_ED s n i) < 1000000 ∧ pb_ED s n i ≤ s.c ∧ i ≤ pb_ED s n i := by
  intro i
  induction i with
  | zero => intro _; exact ⟨hf, by simp [pb_ED], by omega⟩
  | succ i ih =>
    intro hi
    obtain ⟨i1, i2, i3⟩ := ih (by omega)
    rw [show n - i = (n - (i + 1)) + 1 by omega] at i1
    obtain ⟨f1, f2, f3, f4, -⟩ := th_FE i1
    simp only [pb_ED]
    rw [show n - i = (n - (i + 1)) + 1 by omega]
    exact ⟨f4, f2, by omega⟩
theorem th_ED_n {s : Par} {n : Nat} (hf : pb_on (pb_L s) s.c n 0 < 1000000) : pb_ED s n n = s.c := by
  have h := (th_ED hf n (Nat.le_refl n)).1
  rw [Nat.sub_self] at h
  simp only [pb_on] at h
  by_cases q : pb_ED s n n = s.c
  · exact q
  · rw [if_neg q] at h; omega
theorem th_ED_lt {s : Par} {n : Nat} (hf : pb_on (pb_L s) s.c n 0 < 1000000) {i : Nat} (hi : i < n) : pb_ED s n i < pb_ED s n (i + 1) ∧ pb_ED s n (i + 1) ≤ s.c ∧ pb_ED s n (i + 1) = pb_FE s (n - (i + 1) + 1) (pb_ED s n i) := by
  have i1 := (th_ED hf i (by omega)).1
  have e : pb_ED s n (i + 1) = pb_FE s (n - (i + 1) + 1) (pb_ED s n i) := by
    simp only [pb_ED]
    rw [show n - i = (n - (i + 1)) + 1 by omega]
  rw [show n - i = (n - (i + 1)) + 1 by omega] at i1
  obtain ⟨f1, f2, -⟩ := th_FE i1
  rw [e]
  exact ⟨f1, f2, rfl⟩
/-- what the set's bits are between two ends -/
theorem th_bits_E {s : Par} {n g : Nat} (hf : pb_on (pb_L s) s.c n 0 < 1000000) (hg : ∀ j, j + 1 < s.c → th_fS g j = th_gr s n 0 j) : ∀ i, i ≤ n → ∀ j, pb_ED s n i ≤ j → j + 1 < s.c → th_fS g j = th_gr s (n - i) (pb_ED s n i) j := by
  intro i
  induction i with
  | zero => intro _ j _ hj; exact hg j hj
  | succ i ih =>
    intro hi j h1 h2
    obtain ⟨l1, l2, l3⟩ := th_ED_lt hf (i := i) (by omega)
    rw [ih (by omega) j (by omega) h2, show n - i = (n - (i + 1)) + 1 by omega, l3]
    rw [l3] at h1
    show th_ext _ _ j = _
    unfold th_ext
    rw [if_neg (by omega), if_neg (by omega)]
theorem th_bits_at {s : Par} {n g : Nat} (hf : pb_on (pb_L s) s.c n 0 < 1000000) (hg : ∀ j, j + 1 < s.c → th_fS g j = th_gr s n 0 j) {i : Nat} (hi : i < n) : (∀ j, pb_ED s n i ≤ j → j + 1 < pb_ED s n (i + 1) → pb_bt g j = 0) ∧ (pb_ED s n (i + 1) < s.c → pb_bt g (pb_ED s n (i + 1) - 1) = 1) := by
  obtain ⟨l1, l2, l3⟩ := th_ED_lt hf hi
  have hb := th_bits_E hf hg i (by omega)
  rw [show n - i = (n - (i + 1)) + 1 by omega] at hb
  constructor
  · intro j h1 h2
    have e := hb j h1 (by omega)
    rw [l3] at h2
    have e2 : th_gr s (n - (i + 1) + 1) (pb_ED s n i) j = false := by
      show th_ext _ _ j = false
      unfold th_ext
      rw [if_pos h2]
    rw [e2] at e
    have := of_decide_eq_false e
    have := th_bt_lt g j
    omega
  · intro h1
    have e := hb (pb_ED s n (i + 1) - 1) (by omega) (by omega)
    have e2 : th_gr s (n - (i + 1) + 1) (pb_ED s n i) (pb_ED s n (i + 1) - 1) = true := by
      show th_ext _ _ _ = true
      unfold th_ext
      rw [← l3, if_neg (by omega), if_pos (by omega)]
    rw [e2] at e
    exact of_decide_eq_true e
theorem th_eo_skip {s : Par} {set : Nat} {k : Int} {q : Nat} (hq : q ≤ s.c) (hf : q < s.c → pb_bt set (q - 1) = 1) : ∀ m p cnt, p < q → p + m = s.c → (∀ j, p ≤ j → j + 1 < q → pb_bt set j = 0) → ma_eo s set k m p cnt = (if cnt = k then ((q - 1 : Nat) : Int) else ma_eo s set k (s.c - q) q (cnt + 1)) := by
  intro m
  induction m with
  | zero => intro p cnt h1 h2; omega
  | succ m ih =>
    intro p cnt h1 h2 h3
    simp only [ma_eo]
    by_cases hp : p + 1 = q
    · subst hp
      have hc : pb_bt set p = 1 ∨ p + 1 = s.c := by
        rcases Nat.lt_or_ge (p + 1) s.c with z | z
        · exact Or.inl (hf z)
        · exact Or.inr (by omega)
      rw [if_pos hc, show m = s.c - (p + 1) by omega]
      rfl
    · have hc : ¬ (pb_bt set p = 1 ∨ p + 1 = s.c) := by
        rw [h3 p (by omega) (by omega)]
        omega
      rw [if_neg hc]
      exact ih (p + 1) cnt (by omega) (by omega) (fun j a b => h3 j (by omega) b)
theorem th_eo {s : Par} {n g : Nat} (hf : pb_on (pb_L s) s.c n 0 < 1000000) (hg : ∀ j, j + 1 < s.c → th_fS g j = th_gr s n 0 j) (k : Int) : ∀ r i, i + r = n → ma_eo s g k (s.c - pb_ED s n i) (pb_ED s n i) i = (if (i : Int) ≤ k ∧ k < n then ((pb_ED s n (k.toNat + 1) - 1 : Nat) : Int) else -1) := by
  intro r
  induction r with
  | zero =>
    intro i hi
    have e : i = n := by omega
    subst e
    rw [th_ED_n hf, Nat.sub_self, if_neg (by omega)]
    rfl
  | succ r ih =>
    intro i hi
    obtain ⟨l1, l2, l3⟩ := th_ED_lt hf (i := i) (by omega)
    obtain ⟨b1, b2⟩ := th_bits_at hf hg (i := i) (by omega)
    rw [th_eo_skip l2 b2 (s.c - pb_ED s n i) (pb_ED s n i) i l1 (by omega) b1]
    by_cases hk : (i : Int) = k
    · subst hk
      rw [if_pos rfl, if_pos (by omega), Int.toNat_natCast]
    · have e := ih (i + 1) (by omega)
      rw [if_neg hk]
      rw [show ((i : Int) + 1) = ((i + 1 : Nat) : Int) by omega, e]
      by_cases hc : ((i + 1 : Nat) : Int) ≤ k ∧ k < n
      · rw [if_pos hc, if_pos (by omega)]
      · rw [if_neg hc, if_neg (by omega)]
theorem th_EL {s : Par} {n : Nat} (hF : pb_FW s = (n : Int)) (k : Int) : pb_EL s k = (if 0 ≤ k ∧ k < n then ((pb_ED s n (k.toNat + 1) : Nat) : Int) else -1) := by
  unfold pb_EL
  rw [hF, Int.toNat_natCast]
  by_cases hc : 0 ≤ k ∧ k < n
  · rw [if_pos hc, if_neg (by omega)]
  · rw [if_neg hc, if_pos (by omega)]
theorem th_lines {s : Par} (h : pb_Ok s) : ma_lines s = xa_lines s := by
  unfold ma_lines xa_lines
  rcases th_FW h with ⟨a1, a2⟩ | ⟨n, a1, a2, a3, a4, a5⟩
  · rw [if_pos (th_nobest h a2), a1]; rfl
  · obtain ⟨g, g1, g2, g3, g4⟩ := th_best h a2 a3 a4 a5
    rw [g1, a1, if_neg (by omega), if_neg (by omega), Int.toNat_natCast, g3]
theorem th_endOf {s : Par} (h : pb_Ok s) (k : Int) : ma_endOf s k = xa_endOf s k := by
  unfold ma_endOf xa_endOf
  rcases th_FW h with ⟨a1, a2⟩ | ⟨n, a1, a2, a3, a4, a5⟩
  · have e : pb_EL s k = -1 := by
      unfold pb_EL
      rw [a1, if_pos (by omega)]
    rw [if_pos (th_nobest h a2), e, if_pos (by omega)]
  · obtain ⟨g, g1, g2, g3, g4⟩ := th_best h a2 a3 a4 a5
    have e := th_eo a3 g4 k n 0 (by omega)
    simp only [pb_ED, Nat.sub_zero] at e
    rw [g1, if_neg (by omega), Int.toNat_natCast, th_EL a1 k]
    rw [show ma_eo s g k s.c 0 0 = ma_eo s g k s.c 0 ((0 : Nat) : Int) from rfl, e]
    by_cases hc : 0 ≤ k ∧ k < n
    · have := th_ED_lt a3 (i := k.toNat) (by omega)
      have e2 : pb_FE s (n - k.toNat) (pb_ED s n k.toNat) = pb_ED s n (k.toNat + 1) := rfl
      rw [e2, if_pos (by omega), if_pos hc, if_neg (by omega)]
      omega
    · rw [if_neg (by omega), if_neg hc, if_pos (by omega)]
theorem th_lengthOf {s : Par} (h : pb_Ok s) (k : Int) : ma_lengthOf s k = xa_lengthOf s k := by
  unfold ma_lengthOf xa_lengthOf
  rw [th_endOf h, th_endOf h]
  unfold xa_endOf
  rcases th_FW h with ⟨a1, a2⟩ | ⟨n, a1, a2, a3, a4, a5⟩
  · have e : pb_EL s k = -1 := by
      unfold pb_EL
      rw [a1, if_pos (by omega)]
    rw [e]
    simp
  · rw [th_EL a1 k, th_EL a1 (k - 1)]
    by_cases hc : 0 ≤ k ∧ k < n
    · have i1 := th_ED_lt a3 (i := k.toNat) (by omega)
      rw [if_pos hc]
      rw [if_neg (show ¬ ((pb_ED s n (k.toNat + 1) : Nat) : Int) < 0 by omega)]
      rw [if_neg (show ¬ ((pb_ED s n (k.toNat + 1) : Nat) : Int) - 1 < 0 by omega)]
      have e1 : (((pb_ED s n (k.toNat + 1) : Nat) : Int) - 1).toNat + 1 = (((pb_ED s n (k.toNat + 1) : Nat) : Int)).toNat := by omega
      rw [e1]
      by_cases hk : 0 < k
      · have hc1 : 0 ≤ k - 1 ∧ k - 1 < n := by omega
        have i2 := th_ED_lt a3 (i := (k - 1).toNat) (by omega)
        rw [if_pos hk, if_pos hk, if_pos hc1]
        rw [if_neg (show ¬ ((pb_ED s n ((k - 1).toNat + 1) : Nat) : Int) < 0 by omega)]
        rw [show ((pb_ED s n ((k - 1).toNat + 1) : Nat) : Int) - 1 + 1 = ((pb_ED s n ((k - 1).toNat + 1) : Nat) : Int) by omega]
        rw [if_neg (show ¬ ((pb_ED s n (k.toNat + 1) : Nat) : Int) < 0 by omega)]
      · rw [if_neg hk, if_neg hk]
        rw [if_neg (show ¬ ((pb_ED s n (k.toNat + 1) : Nat) : Int) < 0 by omega)]
    · rw [if_neg hc]
      simp
theorem th_pop_z {set a : Nat} : ∀ d, (∀ j, a ≤ j → j < a + d → pb_bt set j = 0) → ma_pop set (a + d) = ma_pop set a := by
  intro d
  induction d with
  | zero => intro _; rfl
  | succ d ih =>
    intro h
    rw [show a + (d + 1) = (a + d) + 1 by omega]
    simp only [ma_pop]
    rw [ih (fun j b c => h j b (by omega)), h (a + d) (by omega) (by omega), Nat.add_zero]
theorem th_lof {s : Par} {n g : Nat} (hF : pb_FW s = (n : Int)) (hf : pb_on (pb_L s) s.c n 0 < 1000000) (hg : ∀ j, j + 1 < s.c → th_fS g j = th_gr s n 0 j) {x : Nat} (hx : x < s.c) : ∀ r i, i + r = n → pb_ED s n i ≤ x → ma_pop g (pb_ED s n i) = i → xa_lof s (x : Int) r i = ((ma_pop g x : Nat) : Int) := by
  intro r
  induction r with
  | zero =>
    intro i hi h1 _
    have e : i = n := by omega
    subst e
    rw [th_ED_n hf] at h1
    omega
  | succ r ih =>
    intro i hi h1 h2
    obtain ⟨l1, l2, l3⟩ := th_ED_lt hf (i := i) (by omega)
    obtain ⟨b1, b2⟩ := th_bits_at hf hg (i := i) (by omega)
    have hel : pb_EL s (i : Int) = ((pb_ED s n (i + 1) : Nat) : Int) := by
      rw [th_EL hF, if_pos (by omega), Int.toNat_natCast]
    simp only [xa_lof]
    rw [hel]
    by_cases hc : (x : Int) < ((pb_ED s n (i + 1) : Nat) : Int)
    · rw [if_pos hc]
      have := th_pop_z (set := g) (a := pb_ED s n i) (x - pb_ED s n i) (fun j c1 c2 => b1 j c1 (by omega))
      rw [show pb_ED s n i + (x - pb_ED s n i) = x by omega, h2] at this
      rw [this]
    · rw [if_neg hc]
      have := th_pop_z (set := g) (a := pb_ED s n i) (pb_ED s n (i + 1) - 1 - pb_ED s n i) (fun j c1 c2 => b1 j c1 (by omega))
      rw [show pb_ED s n i + (pb_ED s n (i + 1) - 1 - pb_ED s n i) = pb_ED s n (i + 1) - 1 by omega, h2] at this
      refine ih (i + 1) (by omega) (by omega) ?_
      have e : ma_pop g (pb_ED s n (i + 1) - 1 + 1) = ma_pop g (pb_ED s n (i + 1) - 1) + pb_bt g (pb_ED s n (i + 1) - 1) := rfl
      rw [show pb_ED s n (i + 1) - 1 + 1 = pb_ED s n (i + 1) by omega, this, b2 (by omega)] at e
      exact e
theorem th_lineOf {s : Par} (h : pb_Ok s) (i : Int) : ma_lineOf s i = xa_lineOf s i := by
  unfold ma_lineOf xa_lineOf xa_lines
  by_cases hi : i < 0 ∨ (s.c : Int) ≤ i
  · rw [if_pos hi, if_pos (Or.inr hi)]
  · rw [if_neg hi]
    obtain ⟨x, hx⟩ : ∃ x : Nat, i = (x : Int) := ⟨i.toNat, by omega⟩
    subst hx
    rw [Int.toNat_natCast]
    rcases th_FW h with ⟨a1, a2⟩ | ⟨n, a1, a2, a3, a4, a5⟩
    · rw [if_pos (Or.inl (th_nobest h a2)), a1]
      rfl
    · obtain ⟨g, g1, g2, g3, g4⟩ := th_best h a2 a3 a4 a5
      rw [g1, a1, if_neg (show ¬ ((g : Int) < 0 ∨ (x : Int) < 0 ∨ (s.c : Int) ≤ x) by omega), if_neg (show ¬ (n : Int) < 0 by omega), Int.toNat_natCast, Int.toNat_natCast]
      exact (th_lof a1 a3 g4 (by omega) n 0 (by omega) (by simp [pb_ED]) (by simp [pb_ED, ma_pop])).symm
end
section
-- ===== PART A: goes FIRST, ahead of the names: the tables' words, and 'selects' of the private methods out of them =====
/-- a private method of a class that the tables say can be made, by its rows of tables_1 -/
def lw_okq (q : MethodName × Nat) : Prop := (q.1.cls ≠ "java/lang/invoke/MethodHandle" ∧ q.1.cls ≠ "java/lang/invoke/VarHandle") ∧ Cond.instantiable q.1.cls q.2 ∈ tables_1 ∧ Cond.privateMethod q.1 ∈ tables_1 ∧ Cond.instanceMethod q.1 ∈ tables_1
set_option maxRecDepth 100000
theorem lw_t1 {w : Cond} (h : w ∈ tables_1_1) : w ∈ tables_1 := List.mem_append_left _ h
theorem lw_t2 {w : Cond} (h : w ∈ tables_1_2) : w ∈ tables_1 := List.mem_append_right _ h
theorem lw_p0 : lw_okq (⟨"ParagraphBreaker", "start", "()V"⟩, 10) := ⟨⟨by decide +kernel, by decide +kernel⟩, lw_t1 (List.mem_of_getElem? (i := 4) rfl), lw_t1 (List.mem_of_getElem? (i := 72) rfl), lw_t1 (List.mem_of_getElem? (i := 73) rfl)⟩
theorem lw_p1 : lw_okq (⟨"ParagraphBreaker", "learn", "()V"⟩, 10) := ⟨⟨by decide +kernel, by decide +kernel⟩, lw_t1 (List.mem_of_getElem? (i := 4) rfl), lw_t1 (List.mem_of_getElem? (i := 76) rfl), lw_t1 (List.mem_of_getElem? (i := 77) rfl)⟩
theorem lw_p2 : lw_okq (⟨"ParagraphBreaker", "leastOnward", "(II)I"⟩, 10) := ⟨⟨by decide +kernel, by decide +kernel⟩, lw_t1 (List.mem_of_getElem? (i := 4) rfl), lw_t1 (List.mem_of_getElem? (i := 81) rfl), lw_t1 (List.mem_of_getElem? (i := 82) rfl)⟩
theorem lw_p3 : lw_okq (⟨"ParagraphBreaker", "lineCost", "(II)I"⟩, 10) := ⟨⟨by decide +kernel, by decide +kernel⟩, lw_t1 (List.mem_of_getElem? (i := 4) rfl), lw_t1 (List.mem_of_getElem? (i := 85) rfl), lw_t1 (List.mem_of_getElem? (i := 86) rfl)⟩
theorem lw_p4 : lw_okq (⟨"ParagraphBreaker", "length", "(II)I"⟩, 10) := ⟨⟨by decide +kernel, by decide +kernel⟩, lw_t1 (List.mem_of_getElem? (i := 4) rfl), lw_t1 (List.mem_of_getElem? (i := 89) rfl), lw_t1 (List.mem_of_getElem? (i := 90) rfl)⟩
theorem lw_p5 : lw_okq (⟨"ParagraphBreaker", "penalised", "(I)Z"⟩, 10) := ⟨⟨by decide +kernel, by decide +kernel⟩, lw_t1 (List.mem_of_getElem? (i := 4) rfl), lw_t1 (List.mem_of_getElem? (i := 93) rfl), lw_t1 (List.mem_of_getElem? (i := 94) rfl)⟩
theorem lw_p6 : lw_okq (⟨"ParagraphBreaker", "findBest", "(I)V"⟩, 10) := ⟨⟨by decide +kernel, by decide +kernel⟩, lw_t1 (List.mem_of_getElem? (i := 4) rfl), lw_t1 (List.mem_of_getElem? (i := 97) rfl), lw_t1 (List.mem_of_getElem? (i := 98) rfl)⟩
theorem lw_p7 : lw_okq (⟨"ParagraphBreaker", "fewestLines", "()I"⟩, 10) := ⟨⟨by decide +kernel, by decide +kernel⟩, lw_t1 (List.mem_of_getElem? (i := 4) rfl), lw_t1 (List.mem_of_getElem? (i := 106) rfl), lw_t1 (List.mem_of_getElem? (i := 107) rfl)⟩
theorem lw_p8 : lw_okq (⟨"ParagraphBreaker", "endOfLine", "(I)I"⟩, 10) := ⟨⟨by decide +kernel, by decide +kernel⟩, lw_t1 (List.mem_of_getElem? (i := 4) rfl), lw_t1 (List.mem_of_getElem? (i := 115) rfl), lw_t1 (List.mem_of_getElem? (i := 116) rfl)⟩
theorem lw_p9 : lw_okq (⟨"ParagraphBreaker", "firstEnd", "(II)I"⟩, 10) := ⟨⟨by decide +kernel, by decide +kernel⟩, lw_t1 (List.mem_of_getElem? (i := 4) rfl), lw_t1 (List.mem_of_getElem? (i := 119) rfl), lw_t1 (List.mem_of_getElem? (i := 120) rfl)⟩
theorem lw_p10 : lw_okq (⟨"ParagraphBreaker", "findUpTo", "()V"⟩, 10) := ⟨⟨by decide +kernel, by decide +kernel⟩, lw_t1 (List.mem_of_getElem? (i := 4) rfl), lw_t1 (List.mem_of_getElem? (i := 139) rfl), lw_t1 (List.mem_of_getElem? (i := 140) rfl)⟩
theorem lw_p11 : lw_okq (⟨"ParagraphBreakerModel", "good", "(II)Z"⟩, 5) := ⟨⟨by decide +kernel, by decide +kernel⟩, lw_t1 (List.mem_of_getElem? (i := 154) rfl), lw_t1 (List.mem_of_getElem? (i := 180) rfl), lw_t1 (List.mem_of_getElem? (i := 181) rfl)⟩
theorem lw_p12 : lw_okq (⟨"ParagraphBreakerModel", "is", "(I)Z"⟩, 5) := ⟨⟨by decide +kernel, by decide +kernel⟩, lw_t1 (List.mem_of_getElem? (i := 154) rfl), lw_t1 (List.mem_of_getElem? (i := 192) rfl), lw_t1 (List.mem_of_getElem? (i := 193) rfl)⟩
theorem lw_p13 : lw_okq (⟨"ParagraphBreakerModel", "best", "(II)I"⟩, 5) := ⟨⟨by decide +kernel, by decide +kernel⟩, lw_t1 (List.mem_of_getElem? (i := 154) rfl), lw_t1 (List.mem_of_getElem? (i := 208) rfl), lw_t1 (List.mem_of_getElem? (i := 209) rfl)⟩
theorem lw_p14 : lw_okq (⟨"ParagraphBreakerModel", "sets", "()I"⟩, 5) := ⟨⟨by decide +kernel, by decide +kernel⟩, lw_t1 (List.mem_of_getElem? (i := 154) rfl), lw_t1 (List.mem_of_getElem? (i := 212) rfl), lw_t1 (List.mem_of_getElem? (i := 213) rfl)⟩
theorem lw_p15 : lw_okq (⟨"ParagraphBreakerModel", "costOf", "(I)I"⟩, 5) := ⟨⟨by decide +kernel, by decide +kernel⟩, lw_t1 (List.mem_of_getElem? (i := 154) rfl), lw_t1 (List.mem_of_getElem? (i := 216) rfl), lw_t1 (List.mem_of_getElem? (i := 217) rfl)⟩
def lw_privs_1 : List (MethodName × Nat) := [(⟨"ParagraphBreaker", "start", "()V"⟩, 10), (⟨"ParagraphBreaker", "learn", "()V"⟩, 10), (⟨"ParagraphBreaker", "leastOnward", "(II)I"⟩, 10), (⟨"ParagraphBreaker", "lineCost", "(II)I"⟩, 10), (⟨"ParagraphBreaker", "length", "(II)I"⟩, 10), (⟨"ParagraphBreaker", "penalised", "(I)Z"⟩, 10), (⟨"ParagraphBreaker", "findBest", "(I)V"⟩, 10), (⟨"ParagraphBreaker", "fewestLines", "()I"⟩, 10), (⟨"ParagraphBreaker", "endOfLine", "(I)I"⟩, 10), (⟨"ParagraphBreaker", "firstEnd", "(II)I"⟩, 10), (⟨"ParagraphBreaker", "findUpTo", "()V"⟩, 10), (⟨"ParagraphBreakerModel", "good", "(II)Z"⟩, 5), (⟨"ParagraphBreakerModel", "is", "(I)Z"⟩, 5), (⟨"ParagraphBreakerModel", "best", "(II)I"⟩, 5), (⟨"ParagraphBreakerModel", "sets", "()I"⟩, 5), (⟨"ParagraphBreakerModel", "costOf", "(I)I"⟩, 5)]
theorem lw_r1 : ∀ q ∈ lw_privs_1, lw_okq q := List.forall_mem_cons.mpr ⟨lw_p0, List.forall_mem_cons.mpr ⟨lw_p1, List.forall_mem_cons.mpr ⟨lw_p2, List.forall_mem_cons.mpr ⟨lw_p3, List.forall_mem_cons.mpr ⟨lw_p4, List.forall_mem_cons.mpr ⟨lw_p5, List.forall_mem_cons.mpr ⟨lw_p6, List.forall_mem_cons.mpr ⟨lw_p7, List.forall_mem_cons.mpr ⟨lw_p8, List.forall_mem_cons.mpr ⟨lw_p9, List.forall_mem_cons.mpr ⟨lw_p10, List.forall_mem_cons.mpr ⟨lw_p11, List.forall_mem_cons.mpr ⟨lw_p12, List.forall_mem_cons.mpr ⟨lw_p13, List.forall_mem_cons.mpr ⟨lw_p14, List.forall_mem_cons.mpr ⟨lw_p15, fun _ h => absurd h List.not_mem_nil⟩⟩⟩⟩⟩⟩⟩⟩⟩⟩⟩⟩⟩⟩⟩⟩
theorem lw_p16 : lw_okq (⟨"ParagraphBreakerModel", "badness", "(II)I"⟩, 5) := ⟨⟨by decide +kernel, by decide +kernel⟩, lw_t1 (List.mem_of_getElem? (i := 154) rfl), lw_t1 (List.mem_of_getElem? (i := 220) rfl), lw_t1 (List.mem_of_getElem? (i := 221) rfl)⟩
theorem lw_p17 : lw_okq (⟨"ParagraphBreakerModel", "length", "(II)I"⟩, 5) := ⟨⟨by decide +kernel, by decide +kernel⟩, lw_t1 (List.mem_of_getElem? (i := 154) rfl), lw_t1 (List.mem_of_getElem? (i := 224) rfl), lw_t1 (List.mem_of_getElem? (i := 225) rfl)⟩
theorem lw_p18 : lw_okq (⟨"ParagraphBreakerModel", "before", "(II)Z"⟩, 5) := ⟨⟨by decide +kernel, by decide +kernel⟩, lw_t1 (List.mem_of_getElem? (i := 154) rfl), lw_t1 (List.mem_of_getElem? (i := 229) rfl), lw_t1 (List.mem_of_getElem? (i := 230) rfl)⟩
theorem lw_p19 : lw_okq (⟨"ParagraphBreakerModel", "count", "(I)I"⟩, 5) := ⟨⟨by decide +kernel, by decide +kernel⟩, lw_t1 (List.mem_of_getElem? (i := 154) rfl), lw_t1 (List.mem_of_getElem? (i := 233) rfl), lw_t1 (List.mem_of_getElem? (i := 234) rfl)⟩
def lw_privs_2 : List (MethodName × Nat) := [(⟨"ParagraphBreakerModel", "badness", "(II)I"⟩, 5), (⟨"ParagraphBreakerModel", "length", "(II)I"⟩, 5), (⟨"ParagraphBreakerModel", "before", "(II)Z"⟩, 5), (⟨"ParagraphBreakerModel", "count", "(I)I"⟩, 5)]
theorem lw_r2 : ∀ q ∈ lw_privs_2, lw_okq q := List.forall_mem_cons.mpr ⟨lw_p16, List.forall_mem_cons.mpr ⟨lw_p17, List.forall_mem_cons.mpr ⟨lw_p18, List.forall_mem_cons.mpr ⟨lw_p19, fun _ h => absurd h List.not_mem_nil⟩⟩⟩⟩
def lw_privs : List (MethodName × Nat) := lw_privs_1 ++ (lw_privs_2)
def lw_tbl : List Cond := k2_sels lw_privs ++ tables_1
theorem lw_privs_ok : ∀ q ∈ lw_privs, lw_okq q := by
  show ∀ q ∈ lw_privs_1 ++ (lw_privs_2), lw_okq q
  exact List.forall_mem_append.mpr ⟨lw_r1, lw_r2⟩
-- ===== ONE list of words for every method: the tables' words that hold all through a run =====
def lw_all : List Cond := lw_tbl.filter goodWord
/-- a word of the tables by its place: claim/WORDS.tsv -/
theorem lw_w {w : Cond} (i : Nat) (h : lw_tbl[i]? = some w) (g : goodWord w = true) : w ∈ lw_all := List.mem_filter.mpr ⟨List.mem_of_getElem? h, g⟩
theorem lw_all_tbl {w : Cond} (h : w ∈ lw_all) : w ∈ lw_tbl := (List.mem_filter.mp h).1
theorem lw_self : GoodIn lw_all lw_all := fun w h => ⟨h, good_of_word (List.mem_filter.mp h).2⟩
/-- a class's field words, by their places -/
theorem lw_in (ws : List Cond) (ps : List Nat) (hp : ws = ps.filterMap (fun i => lw_tbl[i]?)) (hg : ws.all goodWord = true) : ∀ w ∈ ws, w ∈ lw_all := by
  intro w h
  have h1 := List.all_eq_true.mp hg w h
  rw [hp] at h
  obtain ⟨i, -, hi⟩ := List.mem_filterMap.mp h
  exact lw_w i hi h1
/-- the words of a contract for the method y with code b, L locals, answer r -/
abbrev ws_ (y : MethodName) (b : ByteArray) (L : Nat) (r : Option FieldType) : List Cond := Cond.code y b L r :: lw_all
theorem lw_meth {y : MethodName} {b : ByteArray} {L : Nat} {r : Option FieldType} (h : Cond.code y b L r ∈ lw_all) : GoodIn lw_all (ws_ y b L r) := by
  intro w hw
  rcases List.mem_cons.mp hw with e | e
  · rw [e]
    exact lw_self _ h
  · exact lw_self _ e
theorem lw_app {a c : List Cond} (ha : ∀ w ∈ a, w ∈ lw_all) (hc : GoodIn lw_all c) : GoodIn lw_all (a ++ c) := by
  intro w hw
  rcases List.mem_append.mp hw with e | e
  · exact lw_self w (ha w e)
  · exact hc w e
/-- what a call through an object asks: cwV n hts (lw_V ..) -/
theorem lw_V {own : String} {idx : Nat} {C : String} {y : MethodName} {b : ByteArray} {L : Nat} {r : Option FieldType} (h1 : Cond.methodLink own idx y ∈ lw_all) (h2 : Cond.instanceMethod y ∈ lw_all) (h3 : Cond.selects C y y ∈ lw_all) (h4 : Cond.initialized C ∈ lw_all) (h5 : Cond.code y b L r ∈ lw_all) : GoodIn lw_all (wsV own idx C y (ws_ y b L r)) := by
  refine lw_app ?_ (lw_meth h5)
  intro w hw
  simp only [List.mem_cons, List.not_mem_nil, or_false] at hw
  rcases hw with e | e | e | e
  · rw [e]; exact h1
  · rw [e]; exact h2
  · rw [e]; exact h3
  · rw [e]; exact h4
/-- what a static call asks: va_cwS n hts (lw_S ..) -/
theorem lw_S {own : String} {idx : Nat} {y : MethodName} {b : ByteArray} {L : Nat} {r : Option FieldType} (h1 : Cond.methodLink own idx y ∈ lw_all) (h2 : Cond.static y ∈ lw_all) (h3 : Cond.initialized y.cls ∈ lw_all) (h4 : Cond.code y b L r ∈ lw_all) : GoodIn lw_all (va_wsS own idx y (ws_ y b L r)) := by
  refine lw_app ?_ (lw_meth h4)
  intro w hw
  simp only [List.mem_cons, List.not_mem_nil, or_false] at hw
  rcases hw with e | e | e
  · rw [e]; exact h1
  · rw [e]; exact h2
  · rw [e]; exact h3
/-- the words of a contract for a method WITH HANDLERS (hh: its table) -/
abbrev wsW_ (y : MethodName) (b : ByteArray) (L : Nat) (r : Option FieldType) (hh : List (Nat × Nat × Nat × Nat)) : List Cond := Cond.codeWith y b L r hh :: lw_all
theorem lw_methW {y : MethodName} {b : ByteArray} {L : Nat} {r : Option FieldType} {hh : List (Nat × Nat × Nat × Nat)} (h : Cond.codeWith y b L r hh ∈ lw_all) : GoodIn lw_all (wsW_ y b L r hh) := by
  intro w hw
  rcases List.mem_cons.mp hw with e | e
  · rw [e]
    exact lw_self _ h
  · exact lw_self _ e
/-- any list of words by their places (lw_in), good -/
theorem lw_good {ws : List Cond} (h : ∀ w ∈ ws, w ∈ lw_all) : GoodIn lw_all ws := fun w hw => lw_self w (h w hw)
/-- what a call of a method with handlers asks: vx_cwVW n hts (lw_VW ..), vx_cwSW n hts (lw_SW ..) -/
theorem lw_VW {own : String} {idx : Nat} {C : String} {y : MethodName} {b : ByteArray} {L : Nat} {r : Option FieldType} {hh : List (Nat × Nat × Nat × Nat)} (h1 : Cond.methodLink own idx y ∈ lw_all) (h2 : Cond.instanceMethod y ∈ lw_all) (h3 : Cond.selects C y y ∈ lw_all) (h4 : Cond.initialized C ∈ lw_all) (h5 : Cond.codeWith y b L r hh ∈ lw_all) : GoodIn lw_all (wsV own idx C y (wsW_ y b L r hh)) := by
  refine lw_app ?_ (lw_methW h5)
  intro w hw
  simp only [List.mem_cons, List.not_mem_nil, or_false] at hw
  rcases hw with e | e | e | e
  · rw [e]; exact h1
  · rw [e]; exact h2
  · rw [e]; exact h3
  · rw [e]; exact h4
theorem lw_SW {own : String} {idx : Nat} {y : MethodName} {b : ByteArray} {L : Nat} {r : Option FieldType} {hh : List (Nat × Nat × Nat × Nat)} (h1 : Cond.methodLink own idx y ∈ lw_all) (h2 : Cond.static y ∈ lw_all) (h3 : Cond.initialized y.cls ∈ lw_all) (h4 : Cond.codeWith y b L r hh ∈ lw_all) : GoodIn lw_all (va_wsS own idx y (wsW_ y b L r hh)) := by
  refine lw_app ?_ (lw_methW h4)
  intro w hw
  simp only [List.mem_cons, List.not_mem_nil, or_false] at hw
  rcases hw with e | e | e
  · rw [e]; exact h1
  · rw [e]; exact h2
  · rw [e]; exact h3
/-- a word by its place in its run of the tables -/
theorem lw_at {r : List Cond} (hr : ∀ w ∈ r, w ∈ lw_tbl) {w : Cond} (i : Nat) (h : r[i]? = some w) : w ∈ lw_tbl := hr w (List.mem_of_getElem? h)
theorem lw_g {w : Cond} (h : w ∈ lw_tbl) (g : goodWord w = true) : w ∈ lw_all := List.mem_filter.mpr ⟨h, g⟩
theorem lw_ms : ∀ w ∈ k2_sels lw_privs, w ∈ lw_tbl := fun w h => show w ∈ k2_sels lw_privs ++ tables_1 from List.mem_append_left _ h
theorem lw_m1 : ∀ w ∈ tables_1_1, w ∈ lw_tbl := fun w h => show w ∈ k2_sels lw_privs ++ tables_1 from List.mem_append_right (k2_sels lw_privs) (show w ∈ tables_1 from List.mem_append_left _ h)
theorem lw_m2 : ∀ w ∈ tables_1_2, w ∈ lw_tbl := fun w h => show w ∈ k2_sels lw_privs ++ tables_1 from List.mem_append_right (k2_sels lw_privs) (show w ∈ tables_1 from List.mem_append_right _ h)
theorem qs0 : (Cond.selects "ParagraphBreaker" ⟨"ParagraphBreaker", "start", "()V"⟩ ⟨"ParagraphBreaker", "start", "()V"⟩) ∈ lw_all := lw_g (lw_at lw_ms 0 rfl) rfl
theorem qs1 : (Cond.selects "ParagraphBreaker" ⟨"ParagraphBreaker", "learn", "()V"⟩ ⟨"ParagraphBreaker", "learn", "()V"⟩) ∈ lw_all := lw_g (lw_at lw_ms 1 rfl) rfl
theorem qs2 : (Cond.selects "ParagraphBreaker" ⟨"ParagraphBreaker", "leastOnward", "(II)I"⟩ ⟨"ParagraphBreaker", "leastOnward", "(II)I"⟩) ∈ lw_all := lw_g (lw_at lw_ms 2 rfl) rfl
theorem qs3 : (Cond.selects "ParagraphBreaker" ⟨"ParagraphBreaker", "lineCost", "(II)I"⟩ ⟨"ParagraphBreaker", "lineCost", "(II)I"⟩) ∈ lw_all := lw_g (lw_at lw_ms 3 rfl) rfl
theorem qs4 : (Cond.selects "ParagraphBreaker" ⟨"ParagraphBreaker", "length", "(II)I"⟩ ⟨"ParagraphBreaker", "length", "(II)I"⟩) ∈ lw_all := lw_g (lw_at lw_ms 4 rfl) rfl
theorem qs5 : (Cond.selects "ParagraphBreaker" ⟨"ParagraphBreaker", "penalised", "(I)Z"⟩ ⟨"ParagraphBreaker", "penalised", "(I)Z"⟩) ∈ lw_all := lw_g (lw_at lw_ms 5 rfl) rfl
theorem qs6 : (Cond.selects "ParagraphBreaker" ⟨"ParagraphBreaker", "findBest", "(I)V"⟩ ⟨"ParagraphBreaker", "findBest", "(I)V"⟩) ∈ lw_all := lw_g (lw_at lw_ms 6 rfl) rfl
theorem qs7 : (Cond.selects "ParagraphBreaker" ⟨"ParagraphBreaker", "fewestLines", "()I"⟩ ⟨"ParagraphBreaker", "fewestLines", "()I"⟩) ∈ lw_all := lw_g (lw_at lw_ms 7 rfl) rfl
theorem qs8 : (Cond.selects "ParagraphBreaker" ⟨"ParagraphBreaker", "endOfLine", "(I)I"⟩ ⟨"ParagraphBreaker", "endOfLine", "(I)I"⟩) ∈ lw_all := lw_g (lw_at lw_ms 8 rfl) rfl
theorem qs9 : (Cond.selects "ParagraphBreaker" ⟨"ParagraphBreaker", "firstEnd", "(II)I"⟩ ⟨"ParagraphBreaker", "firstEnd", "(II)I"⟩) ∈ lw_all := lw_g (lw_at lw_ms 9 rfl) rfl
theorem qs10 : (Cond.selects "ParagraphBreaker" ⟨"ParagraphBreaker", "findUpTo", "()V"⟩ ⟨"ParagraphBreaker", "findUpTo", "()V"⟩) ∈ lw_all := lw_g (lw_at lw_ms 10 rfl) rfl
theorem qs11 : (Cond.selects "ParagraphBreakerModel" ⟨"ParagraphBreakerModel", "good", "(II)Z"⟩ ⟨"ParagraphBreakerModel", "good", "(II)Z"⟩) ∈ lw_all := lw_g (lw_at lw_ms 11 rfl) rfl
theorem qs12 : (Cond.selects "ParagraphBreakerModel" ⟨"ParagraphBreakerModel", "is", "(I)Z"⟩ ⟨"ParagraphBreakerModel", "is", "(I)Z"⟩) ∈ lw_all := lw_g (lw_at lw_ms 12 rfl) rfl
theorem qs13 : (Cond.selects "ParagraphBreakerModel" ⟨"ParagraphBreakerModel", "best", "(II)I"⟩ ⟨"ParagraphBreakerModel", "best", "(II)I"⟩) ∈ lw_all := lw_g (lw_at lw_ms 13 rfl) rfl
theorem qs14 : (Cond.selects "ParagraphBreakerModel" ⟨"ParagraphBreakerModel", "sets", "()I"⟩ ⟨"ParagraphBreakerModel", "sets", "()I"⟩) ∈ lw_all := lw_g (lw_at lw_ms 14 rfl) rfl
theorem qs15 : (Cond.selects "ParagraphBreakerModel" ⟨"ParagraphBreakerModel", "costOf", "(I)I"⟩ ⟨"ParagraphBreakerModel", "costOf", "(I)I"⟩) ∈ lw_all := lw_g (lw_at lw_ms 15 rfl) rfl
theorem qs16 : (Cond.selects "ParagraphBreakerModel" ⟨"ParagraphBreakerModel", "badness", "(II)I"⟩ ⟨"ParagraphBreakerModel", "badness", "(II)I"⟩) ∈ lw_all := lw_g (lw_at lw_ms 16 rfl) rfl
theorem qs17 : (Cond.selects "ParagraphBreakerModel" ⟨"ParagraphBreakerModel", "length", "(II)I"⟩ ⟨"ParagraphBreakerModel", "length", "(II)I"⟩) ∈ lw_all := lw_g (lw_at lw_ms 17 rfl) rfl
theorem qs18 : (Cond.selects "ParagraphBreakerModel" ⟨"ParagraphBreakerModel", "before", "(II)Z"⟩ ⟨"ParagraphBreakerModel", "before", "(II)Z"⟩) ∈ lw_all := lw_g (lw_at lw_ms 18 rfl) rfl
theorem qs19 : (Cond.selects "ParagraphBreakerModel" ⟨"ParagraphBreakerModel", "count", "(I)I"⟩ ⟨"ParagraphBreakerModel", "count", "(I)I"⟩) ∈ lw_all := lw_g (lw_at lw_ms 19 rfl) rfl
end
section
set_option maxRecDepth 100000
theorem q62 : (Jvm.Cond.arrayClass Jvm.ClassFile.FieldType.byte) ∈ lw_all := lw_g (lw_at lw_m1 42 rfl) rfl
theorem q63 : (Jvm.Cond.arrayClass Jvm.ClassFile.FieldType.int) ∈ lw_all := lw_g (lw_at lw_m1 43 rfl) rfl
/-! java/lang/Object -/
def RJ0 : String := "java/lang/Object"
abbrev cJ0_init : ByteArray := object_method_1_code
def yJ0_init : MethodName := ⟨RJ0, "<init>", "()V"⟩
theorem dJ0_init_0 : decode cJ0_init 0 = .ok (.return_, 1) := by decide +kernel
theorem q29 : (Jvm.Cond.instanceMethod ({ cls := "java/lang/Object", name := "<init>", desc := "()V" } : Jvm.MethodName)) ∈ lw_all := lw_g (lw_at lw_m1 9 rfl) rfl
theorem q30 : (Jvm.Cond.code ({ cls := "java/lang/Object", name := "<init>", desc := "()V" } : Jvm.MethodName) object_method_1_code (1 : Nat) (Option.none : Option Jvm.ClassFile.FieldType)) ∈ lw_all := lw_g (lw_at lw_m1 10 rfl) rfl
/-! ParagraphBreakerLaw -/
def RX0 : String := "ParagraphBreakerLaw"
abbrev cX0_cell : ByteArray := method_2_code
def yX0_cell : MethodName := ⟨RX0, "cell", "([II)I"⟩
theorem dX0_cell_0 : decode cX0_cell 0 = .ok (.iload_n 1, 1) := by decide +kernel
theorem dX0_cell_1 : decode cX0_cell 1 = .ok (.aload_n 0, 1) := by decide +kernel
theorem dX0_cell_2 : decode cX0_cell 2 = .ok (.arraylength, 1) := by decide +kernel
theorem dX0_cell_3 : decode cX0_cell 3 = .ok (.if_icmp .ge 9, 3) := by decide +kernel
theorem dX0_cell_6 : decode cX0_cell 6 = .ok (.aload_n 0, 1) := by decide +kernel
theorem dX0_cell_7 : decode cX0_cell 7 = .ok (.iload_n 1, 1) := by decide +kernel
theorem dX0_cell_8 : decode cX0_cell 8 = .ok (.iaload, 1) := by decide +kernel
theorem dX0_cell_9 : decode cX0_cell 9 = .ok (.goto 4, 3) := by decide +kernel
theorem dX0_cell_12 : decode cX0_cell 12 = .ok (.iconst 0, 1) := by decide +kernel
theorem dX0_cell_13 : decode cX0_cell 13 = .ok (.ireturn, 1) := by decide +kernel
theorem q20 : (Jvm.Cond.initialized "ParagraphBreakerLaw") ∈ lw_all := lw_g (lw_at lw_m1 0 rfl) rfl
theorem q23 : (Jvm.Cond.classLink "ParagraphBreakerLaw" (7 : Nat) "ParagraphBreaker") ∈ lw_all := lw_g (lw_at lw_m1 3 rfl) rfl
theorem q25 : (Jvm.Cond.methodLink "ParagraphBreakerLaw" (15 : Nat) ({ cls := "ParagraphBreaker", name := "<init>", desc := "(II)V" } : Jvm.MethodName)) ∈ lw_all := lw_g (lw_at lw_m1 5 rfl) rfl
theorem q64 : (Jvm.Cond.methodLink "ParagraphBreakerLaw" (21 : Nat) ({ cls := "ParagraphBreaker", name := "word", desc := "(II)I" } : Jvm.MethodName)) ∈ lw_all := lw_g (lw_at lw_m1 44 rfl) rfl
theorem q71 : (Jvm.Cond.methodLink "ParagraphBreakerLaw" (26 : Nat) ({ cls := "ParagraphBreaker", name := "back", desc := "()I" } : Jvm.MethodName)) ∈ lw_all := lw_g (lw_at lw_m1 51 rfl) rfl
theorem q75 : (Jvm.Cond.methodLink "ParagraphBreakerLaw" (31 : Nat) ({ cls := "ParagraphBreaker", name := "change", desc := "(III)Z" } : Jvm.MethodName)) ∈ lw_all := lw_g (lw_at lw_m1 55 rfl) rfl
theorem q79 : (Jvm.Cond.methodLink "ParagraphBreakerLaw" (36 : Nat) ({ cls := "ParagraphBreaker", name := "setWidth", desc := "(I)Z" } : Jvm.MethodName)) ∈ lw_all := lw_g (lw_at lw_m1 59 rfl) rfl
theorem q83 : (Jvm.Cond.methodLink "ParagraphBreakerLaw" (41 : Nat) ({ cls := "ParagraphBreaker", name := "words", desc := "()I" } : Jvm.MethodName)) ∈ lw_all := lw_g (lw_at lw_m1 63 rfl) rfl
theorem q87 : (Jvm.Cond.methodLink "ParagraphBreakerLaw" (45 : Nat) ({ cls := "ParagraphBreaker", name := "cost", desc := "()I" } : Jvm.MethodName)) ∈ lw_all := lw_g (lw_at lw_m1 67 rfl) rfl
theorem q121 : (Jvm.Cond.methodLink "ParagraphBreakerLaw" (49 : Nat) ({ cls := "ParagraphBreaker", name := "lines", desc := "()I" } : Jvm.MethodName)) ∈ lw_all := lw_g (lw_at lw_m1 101 rfl) rfl
theorem q129 : (Jvm.Cond.methodLink "ParagraphBreakerLaw" (53 : Nat) ({ cls := "ParagraphBreaker", name := "lineOf", desc := "(I)I" } : Jvm.MethodName)) ∈ lw_all := lw_g (lw_at lw_m1 109 rfl) rfl
theorem q142 : (Jvm.Cond.methodLink "ParagraphBreakerLaw" (58 : Nat) ({ cls := "ParagraphBreaker", name := "endOf", desc := "(I)I" } : Jvm.MethodName)) ∈ lw_all := lw_g (lw_at lw_m1 122 rfl) rfl
theorem q146 : (Jvm.Cond.methodLink "ParagraphBreakerLaw" (62 : Nat) ({ cls := "ParagraphBreaker", name := "lengthOf", desc := "(I)I" } : Jvm.MethodName)) ∈ lw_all := lw_g (lw_at lw_m1 126 rfl) rfl
theorem q150 : (Jvm.Cond.methodLink "ParagraphBreakerLaw" (66 : Nat) ({ cls := "ParagraphBreaker", name := "costWith", desc := "(I)I" } : Jvm.MethodName)) ∈ lw_all := lw_g (lw_at lw_m1 130 rfl) rfl
theorem q154 : (Jvm.Cond.methodLink "ParagraphBreakerLaw" (70 : Nat) ({ cls := "ParagraphBreaker", name := "costBreaking", desc := "(I)I" } : Jvm.MethodName)) ∈ lw_all := lw_g (lw_at lw_m1 134 rfl) rfl
theorem q162 : (Jvm.Cond.methodLink "ParagraphBreakerLaw" (74 : Nat) ({ cls := "ParagraphBreaker", name := "costKeeping", desc := "(I)I" } : Jvm.MethodName)) ∈ lw_all := lw_g (lw_at lw_m1 142 rfl) rfl
theorem q166 : (Jvm.Cond.methodLink "ParagraphBreakerLaw" (78 : Nat) ({ cls := "ParagraphBreaker", name := "choices", desc := "()I" } : Jvm.MethodName)) ∈ lw_all := lw_g (lw_at lw_m1 146 rfl) rfl
theorem q170 : (Jvm.Cond.methodLink "ParagraphBreakerLaw" (9 : Nat) ({ cls := "ParagraphBreakerLaw", name := "cell", desc := "([II)I" } : Jvm.MethodName)) ∈ lw_all := lw_g (lw_at lw_m1 150 rfl) rfl
theorem q171 : (Jvm.Cond.static ({ cls := "ParagraphBreakerLaw", name := "cell", desc := "([II)I" } : Jvm.MethodName)) ∈ lw_all := lw_g (lw_at lw_m1 151 rfl) rfl
theorem q172 : (Jvm.Cond.code ({ cls := "ParagraphBreakerLaw", name := "cell", desc := "([II)I" } : Jvm.MethodName) method_2_code (2 : Nat) (Option.some Jvm.ClassFile.FieldType.int)) ∈ lw_all := lw_g (lw_at lw_m1 152 rfl) rfl
theorem q173 : (Jvm.Cond.classLink "ParagraphBreakerLaw" (18 : Nat) "ParagraphBreakerModel") ∈ lw_all := lw_g (lw_at lw_m1 153 rfl) rfl
theorem q175 : (Jvm.Cond.methodLink "ParagraphBreakerLaw" (20 : Nat) ({ cls := "ParagraphBreakerModel", name := "<init>", desc := "(II)V" } : Jvm.MethodName)) ∈ lw_all := lw_g (lw_at lw_m1 155 rfl) rfl
theorem q195 : (Jvm.Cond.methodLink "ParagraphBreakerLaw" (25 : Nat) ({ cls := "ParagraphBreakerModel", name := "word", desc := "(II)I" } : Jvm.MethodName)) ∈ lw_all := lw_g (lw_at lw_m1 175 rfl) rfl
theorem q203 : (Jvm.Cond.methodLink "ParagraphBreakerLaw" (30 : Nat) ({ cls := "ParagraphBreakerModel", name := "back", desc := "()I" } : Jvm.MethodName)) ∈ lw_all := lw_g (lw_at lw_m1 183 rfl) rfl
theorem q207 : (Jvm.Cond.methodLink "ParagraphBreakerLaw" (35 : Nat) ({ cls := "ParagraphBreakerModel", name := "change", desc := "(III)Z" } : Jvm.MethodName)) ∈ lw_all := lw_g (lw_at lw_m1 187 rfl) rfl
theorem q215 : (Jvm.Cond.methodLink "ParagraphBreakerLaw" (40 : Nat) ({ cls := "ParagraphBreakerModel", name := "setWidth", desc := "(I)Z" } : Jvm.MethodName)) ∈ lw_all := lw_g (lw_at lw_m1 195 rfl) rfl
theorem q219 : (Jvm.Cond.methodLink "ParagraphBreakerLaw" (44 : Nat) ({ cls := "ParagraphBreakerModel", name := "words", desc := "()I" } : Jvm.MethodName)) ∈ lw_all := lw_g (lw_at lw_m1 199 rfl) rfl
theorem q223 : (Jvm.Cond.methodLink "ParagraphBreakerLaw" (48 : Nat) ({ cls := "ParagraphBreakerModel", name := "cost", desc := "()I" } : Jvm.MethodName)) ∈ lw_all := lw_g (lw_at lw_m1 203 rfl) rfl
theorem q256 : (Jvm.Cond.methodLink "ParagraphBreakerLaw" (52 : Nat) ({ cls := "ParagraphBreakerModel", name := "lines", desc := "()I" } : Jvm.MethodName)) ∈ lw_all := lw_g (lw_at lw_m1 236 rfl) rfl
theorem q260 : (Jvm.Cond.methodLink "ParagraphBreakerLaw" (57 : Nat) ({ cls := "ParagraphBreakerModel", name := "lineOf", desc := "(I)I" } : Jvm.MethodName)) ∈ lw_all := lw_g (lw_at lw_m2 0 rfl) rfl
theorem q264 : (Jvm.Cond.methodLink "ParagraphBreakerLaw" (61 : Nat) ({ cls := "ParagraphBreakerModel", name := "endOf", desc := "(I)I" } : Jvm.MethodName)) ∈ lw_all := lw_g (lw_at lw_m2 4 rfl) rfl
theorem q268 : (Jvm.Cond.methodLink "ParagraphBreakerLaw" (65 : Nat) ({ cls := "ParagraphBreakerModel", name := "lengthOf", desc := "(I)I" } : Jvm.MethodName)) ∈ lw_all := lw_g (lw_at lw_m2 8 rfl) rfl
theorem q273 : (Jvm.Cond.methodLink "ParagraphBreakerLaw" (69 : Nat) ({ cls := "ParagraphBreakerModel", name := "costWith", desc := "(I)I" } : Jvm.MethodName)) ∈ lw_all := lw_g (lw_at lw_m2 13 rfl) rfl
theorem q277 : (Jvm.Cond.methodLink "ParagraphBreakerLaw" (73 : Nat) ({ cls := "ParagraphBreakerModel", name := "costBreaking", desc := "(I)I" } : Jvm.MethodName)) ∈ lw_all := lw_g (lw_at lw_m2 17 rfl) rfl
theorem q281 : (Jvm.Cond.methodLink "ParagraphBreakerLaw" (77 : Nat) ({ cls := "ParagraphBreakerModel", name := "costKeeping", desc := "(I)I" } : Jvm.MethodName)) ∈ lw_all := lw_g (lw_at lw_m2 21 rfl) rfl
theorem q285 : (Jvm.Cond.methodLink "ParagraphBreakerLaw" (81 : Nat) ({ cls := "ParagraphBreakerModel", name := "choices", desc := "()I" } : Jvm.MethodName)) ∈ lw_all := lw_g (lw_at lw_m2 25 rfl) rfl
/-! the law's own entry -/
abbrev cL_law : ByteArray := code
theorem dL_law_0 : decode cL_law 0 = .ok (.new 7, 3) := by decide +kernel
theorem dL_law_3 : decode cL_law 3 = .ok (.dup, 1) := by decide +kernel
theorem dL_law_4 : decode cL_law 4 = .ok (.aload_n 0, 1) := by decide +kernel
theorem dL_law_5 : decode cL_law 5 = .ok (.iconst 0, 1) := by decide +kernel
theorem dL_law_6 : decode cL_law 6 = .ok (.invokestatic 9, 3) := by decide +kernel
theorem dL_law_9 : decode cL_law 9 = .ok (.aload_n 0, 1) := by decide +kernel
theorem dL_law_10 : decode cL_law 10 = .ok (.iconst 1, 1) := by decide +kernel
theorem dL_law_11 : decode cL_law 11 = .ok (.invokestatic 9, 3) := by decide +kernel
theorem dL_law_14 : decode cL_law 14 = .ok (.invokespecial 15, 3) := by decide +kernel
theorem dL_law_17 : decode cL_law 17 = .ok (.astore_n 1, 1) := by decide +kernel
theorem dL_law_18 : decode cL_law 18 = .ok (.new 18, 3) := by decide +kernel
theorem dL_law_21 : decode cL_law 21 = .ok (.dup, 1) := by decide +kernel
theorem dL_law_22 : decode cL_law 22 = .ok (.aload_n 0, 1) := by decide +kernel
theorem dL_law_23 : decode cL_law 23 = .ok (.iconst 0, 1) := by decide +kernel
theorem dL_law_24 : decode cL_law 24 = .ok (.invokestatic 9, 3) := by decide +kernel
theorem dL_law_27 : decode cL_law 27 = .ok (.aload_n 0, 1) := by decide +kernel
theorem dL_law_28 : decode cL_law 28 = .ok (.iconst 1, 1) := by decide +kernel
theorem dL_law_29 : decode cL_law 29 = .ok (.invokestatic 9, 3) := by decide +kernel
theorem dL_law_32 : decode cL_law 32 = .ok (.invokespecial 20, 3) := by decide +kernel
theorem dL_law_35 : decode cL_law 35 = .ok (.astore_n 2, 1) := by decide +kernel
theorem dL_law_36 : decode cL_law 36 = .ok (.iconst 2, 1) := by decide +kernel
theorem dL_law_37 : decode cL_law 37 = .ok (.istore_n 3, 1) := by decide +kernel
theorem dL_law_38 : decode cL_law 38 = .ok (.iload_n 3, 1) := by decide +kernel
theorem dL_law_39 : decode cL_law 39 = .ok (.aload_n 0, 1) := by decide +kernel
theorem dL_law_40 : decode cL_law 40 = .ok (.arraylength, 1) := by decide +kernel
theorem dL_law_41 : decode cL_law 41 = .ok (.iconst 4, 1) := by decide +kernel
theorem dL_law_42 : decode cL_law 42 = .ok (.isub, 1) := by decide +kernel
theorem dL_law_43 : decode cL_law 43 = .ok (.if_icmp .gt 389, 3) := by decide +kernel
theorem dL_law_46 : decode cL_law 46 = .ok (.aload_n 0, 1) := by decide +kernel
theorem dL_law_47 : decode cL_law 47 = .ok (.iload_n 3, 1) := by decide +kernel
theorem dL_law_48 : decode cL_law 48 = .ok (.iaload, 1) := by decide +kernel
theorem dL_law_49 : decode cL_law 49 = .ok (.bipush 15, 2) := by decide +kernel
theorem dL_law_51 : decode cL_law 51 = .ok (.iand, 1) := by decide +kernel
theorem dL_law_52 : decode cL_law 52 = .ok (.tableswitch 374 0 13 #[72, 105, 118, 161, 184, 197, 210, 223, 246, 269, 292, 315, 338, 361], 72) := by decide +kernel
theorem dL_law_124 : decode cL_law 124 = .ok (.aload_n 1, 1) := by decide +kernel
theorem dL_law_125 : decode cL_law 125 = .ok (.aload_n 0, 1) := by decide +kernel
theorem dL_law_126 : decode cL_law 126 = .ok (.iload_n 3, 1) := by decide +kernel
theorem dL_law_127 : decode cL_law 127 = .ok (.iconst 1, 1) := by decide +kernel
theorem dL_law_128 : decode cL_law 128 = .ok (.iadd, 1) := by decide +kernel
theorem dL_law_129 : decode cL_law 129 = .ok (.iaload, 1) := by decide +kernel
theorem dL_law_130 : decode cL_law 130 = .ok (.aload_n 0, 1) := by decide +kernel
theorem dL_law_131 : decode cL_law 131 = .ok (.iload_n 3, 1) := by decide +kernel
theorem dL_law_132 : decode cL_law 132 = .ok (.iconst 2, 1) := by decide +kernel
theorem dL_law_133 : decode cL_law 133 = .ok (.iadd, 1) := by decide +kernel
theorem dL_law_134 : decode cL_law 134 = .ok (.iaload, 1) := by decide +kernel
theorem dL_law_135 : decode cL_law 135 = .ok (.invokevirtual 21, 3) := by decide +kernel
theorem dL_law_138 : decode cL_law 138 = .ok (.aload_n 2, 1) := by decide +kernel
theorem dL_law_139 : decode cL_law 139 = .ok (.aload_n 0, 1) := by decide +kernel
theorem dL_law_140 : decode cL_law 140 = .ok (.iload_n 3, 1) := by decide +kernel
theorem dL_law_141 : decode cL_law 141 = .ok (.iconst 1, 1) := by decide +kernel
theorem dL_law_142 : decode cL_law 142 = .ok (.iadd, 1) := by decide +kernel
theorem dL_law_143 : decode cL_law 143 = .ok (.iaload, 1) := by decide +kernel
theorem dL_law_144 : decode cL_law 144 = .ok (.aload_n 0, 1) := by decide +kernel
theorem dL_law_145 : decode cL_law 145 = .ok (.iload_n 3, 1) := by decide +kernel
theorem dL_law_146 : decode cL_law 146 = .ok (.iconst 2, 1) := by decide +kernel
theorem dL_law_147 : decode cL_law 147 = .ok (.iadd, 1) := by decide +kernel
theorem dL_law_148 : decode cL_law 148 = .ok (.iaload, 1) := by decide +kernel
theorem dL_law_149 : decode cL_law 149 = .ok (.invokevirtual 25, 3) := by decide +kernel
theorem dL_law_152 : decode cL_law 152 = .ok (.if_icmp .eq 274, 3) := by decide +kernel
theorem dL_law_155 : decode cL_law 155 = .ok (.iconst 0, 1) := by decide +kernel
theorem dL_law_156 : decode cL_law 156 = .ok (.ireturn, 1) := by decide +kernel
theorem dL_law_157 : decode cL_law 157 = .ok (.aload_n 1, 1) := by decide +kernel
theorem dL_law_158 : decode cL_law 158 = .ok (.invokevirtual 26, 3) := by decide +kernel
theorem dL_law_161 : decode cL_law 161 = .ok (.aload_n 2, 1) := by decide +kernel
theorem dL_law_162 : decode cL_law 162 = .ok (.invokevirtual 30, 3) := by decide +kernel
theorem dL_law_165 : decode cL_law 165 = .ok (.if_icmp .eq 261, 3) := by decide +kernel
theorem dL_law_168 : decode cL_law 168 = .ok (.iconst 0, 1) := by decide +kernel
theorem dL_law_169 : decode cL_law 169 = .ok (.ireturn, 1) := by decide +kernel
theorem dL_law_170 : decode cL_law 170 = .ok (.aload_n 1, 1) := by decide +kernel
theorem dL_law_171 : decode cL_law 171 = .ok (.aload_n 0, 1) := by decide +kernel
theorem dL_law_172 : decode cL_law 172 = .ok (.iload_n 3, 1) := by decide +kernel
theorem dL_law_173 : decode cL_law 173 = .ok (.iconst 1, 1) := by decide +kernel
theorem dL_law_174 : decode cL_law 174 = .ok (.iadd, 1) := by decide +kernel
theorem dL_law_175 : decode cL_law 175 = .ok (.iaload, 1) := by decide +kernel
theorem dL_law_176 : decode cL_law 176 = .ok (.aload_n 0, 1) := by decide +kernel
theorem dL_law_177 : decode cL_law 177 = .ok (.iload_n 3, 1) := by decide +kernel
theorem dL_law_178 : decode cL_law 178 = .ok (.iconst 2, 1) := by decide +kernel
theorem dL_law_179 : decode cL_law 179 = .ok (.iadd, 1) := by decide +kernel
theorem dL_law_180 : decode cL_law 180 = .ok (.iaload, 1) := by decide +kernel
theorem dL_law_181 : decode cL_law 181 = .ok (.aload_n 0, 1) := by decide +kernel
theorem dL_law_182 : decode cL_law 182 = .ok (.iload_n 3, 1) := by decide +kernel
theorem dL_law_183 : decode cL_law 183 = .ok (.iconst 3, 1) := by decide +kernel
theorem dL_law_184 : decode cL_law 184 = .ok (.iadd, 1) := by decide +kernel
theorem dL_law_185 : decode cL_law 185 = .ok (.iaload, 1) := by decide +kernel
theorem dL_law_186 : decode cL_law 186 = .ok (.invokevirtual 31, 3) := by decide +kernel
theorem dL_law_189 : decode cL_law 189 = .ok (.aload_n 2, 1) := by decide +kernel
theorem dL_law_190 : decode cL_law 190 = .ok (.aload_n 0, 1) := by decide +kernel
theorem dL_law_191 : decode cL_law 191 = .ok (.iload_n 3, 1) := by decide +kernel
theorem dL_law_192 : decode cL_law 192 = .ok (.iconst 1, 1) := by decide +kernel
theorem dL_law_193 : decode cL_law 193 = .ok (.iadd, 1) := by decide +kernel
theorem dL_law_194 : decode cL_law 194 = .ok (.iaload, 1) := by decide +kernel
theorem dL_law_195 : decode cL_law 195 = .ok (.aload_n 0, 1) := by decide +kernel
theorem dL_law_196 : decode cL_law 196 = .ok (.iload_n 3, 1) := by decide +kernel
theorem dL_law_197 : decode cL_law 197 = .ok (.iconst 2, 1) := by decide +kernel
theorem dL_law_198 : decode cL_law 198 = .ok (.iadd, 1) := by decide +kernel
theorem dL_law_199 : decode cL_law 199 = .ok (.iaload, 1) := by decide +kernel
theorem dL_law_200 : decode cL_law 200 = .ok (.aload_n 0, 1) := by decide +kernel
theorem dL_law_201 : decode cL_law 201 = .ok (.iload_n 3, 1) := by decide +kernel
theorem dL_law_202 : decode cL_law 202 = .ok (.iconst 3, 1) := by decide +kernel
theorem dL_law_203 : decode cL_law 203 = .ok (.iadd, 1) := by decide +kernel
theorem dL_law_204 : decode cL_law 204 = .ok (.iaload, 1) := by decide +kernel
theorem dL_law_205 : decode cL_law 205 = .ok (.invokevirtual 35, 3) := by decide +kernel
theorem dL_law_208 : decode cL_law 208 = .ok (.if_icmp .eq 218, 3) := by decide +kernel
theorem dL_law_211 : decode cL_law 211 = .ok (.iconst 0, 1) := by decide +kernel
theorem dL_law_212 : decode cL_law 212 = .ok (.ireturn, 1) := by decide +kernel
theorem dL_law_213 : decode cL_law 213 = .ok (.aload_n 1, 1) := by decide +kernel
theorem dL_law_214 : decode cL_law 214 = .ok (.aload_n 0, 1) := by decide +kernel
theorem dL_law_215 : decode cL_law 215 = .ok (.iload_n 3, 1) := by decide +kernel
theorem dL_law_216 : decode cL_law 216 = .ok (.iconst 1, 1) := by decide +kernel
theorem dL_law_217 : decode cL_law 217 = .ok (.iadd, 1) := by decide +kernel
theorem dL_law_218 : decode cL_law 218 = .ok (.iaload, 1) := by decide +kernel
theorem dL_law_219 : decode cL_law 219 = .ok (.invokevirtual 36, 3) := by decide +kernel
theorem dL_law_222 : decode cL_law 222 = .ok (.aload_n 2, 1) := by decide +kernel
theorem dL_law_223 : decode cL_law 223 = .ok (.aload_n 0, 1) := by decide +kernel
theorem dL_law_224 : decode cL_law 224 = .ok (.iload_n 3, 1) := by decide +kernel
theorem dL_law_225 : decode cL_law 225 = .ok (.iconst 1, 1) := by decide +kernel
theorem dL_law_226 : decode cL_law 226 = .ok (.iadd, 1) := by decide +kernel
theorem dL_law_227 : decode cL_law 227 = .ok (.iaload, 1) := by decide +kernel
theorem dL_law_228 : decode cL_law 228 = .ok (.invokevirtual 40, 3) := by decide +kernel
theorem dL_law_231 : decode cL_law 231 = .ok (.if_icmp .eq 195, 3) := by decide +kernel
theorem dL_law_234 : decode cL_law 234 = .ok (.iconst 0, 1) := by decide +kernel
theorem dL_law_235 : decode cL_law 235 = .ok (.ireturn, 1) := by decide +kernel
theorem dL_law_236 : decode cL_law 236 = .ok (.aload_n 1, 1) := by decide +kernel
theorem dL_law_237 : decode cL_law 237 = .ok (.invokevirtual 41, 3) := by decide +kernel
theorem dL_law_240 : decode cL_law 240 = .ok (.aload_n 2, 1) := by decide +kernel
theorem dL_law_241 : decode cL_law 241 = .ok (.invokevirtual 44, 3) := by decide +kernel
theorem dL_law_244 : decode cL_law 244 = .ok (.if_icmp .eq 182, 3) := by decide +kernel
theorem dL_law_247 : decode cL_law 247 = .ok (.iconst 0, 1) := by decide +kernel
theorem dL_law_248 : decode cL_law 248 = .ok (.ireturn, 1) := by decide +kernel
theorem dL_law_249 : decode cL_law 249 = .ok (.aload_n 1, 1) := by decide +kernel
theorem dL_law_250 : decode cL_law 250 = .ok (.invokevirtual 45, 3) := by decide +kernel
theorem dL_law_253 : decode cL_law 253 = .ok (.aload_n 2, 1) := by decide +kernel
theorem dL_law_254 : decode cL_law 254 = .ok (.invokevirtual 48, 3) := by decide +kernel
theorem dL_law_257 : decode cL_law 257 = .ok (.if_icmp .eq 169, 3) := by decide +kernel
theorem dL_law_260 : decode cL_law 260 = .ok (.iconst 0, 1) := by decide +kernel
theorem dL_law_261 : decode cL_law 261 = .ok (.ireturn, 1) := by decide +kernel
theorem dL_law_262 : decode cL_law 262 = .ok (.aload_n 1, 1) := by decide +kernel
theorem dL_law_263 : decode cL_law 263 = .ok (.invokevirtual 49, 3) := by decide +kernel
theorem dL_law_266 : decode cL_law 266 = .ok (.aload_n 2, 1) := by decide +kernel
theorem dL_law_267 : decode cL_law 267 = .ok (.invokevirtual 52, 3) := by decide +kernel
theorem dL_law_270 : decode cL_law 270 = .ok (.if_icmp .eq 156, 3) := by decide +kernel
theorem dL_law_273 : decode cL_law 273 = .ok (.iconst 0, 1) := by decide +kernel
theorem dL_law_274 : decode cL_law 274 = .ok (.ireturn, 1) := by decide +kernel
theorem dL_law_275 : decode cL_law 275 = .ok (.aload_n 1, 1) := by decide +kernel
theorem dL_law_276 : decode cL_law 276 = .ok (.aload_n 0, 1) := by decide +kernel
theorem dL_law_277 : decode cL_law 277 = .ok (.iload_n 3, 1) := by decide +kernel
theorem dL_law_278 : decode cL_law 278 = .ok (.iconst 1, 1) := by decide +kernel
theorem dL_law_279 : decode cL_law 279 = .ok (.iadd, 1) := by decide +kernel
theorem dL_law_280 : decode cL_law 280 = .ok (.iaload, 1) := by decide +kernel
theorem dL_law_281 : decode cL_law 281 = .ok (.invokevirtual 53, 3) := by decide +kernel
theorem dL_law_284 : decode cL_law 284 = .ok (.aload_n 2, 1) := by decide +kernel
theorem dL_law_285 : decode cL_law 285 = .ok (.aload_n 0, 1) := by decide +kernel
theorem dL_law_286 : decode cL_law 286 = .ok (.iload_n 3, 1) := by decide +kernel
theorem dL_law_287 : decode cL_law 287 = .ok (.iconst 1, 1) := by decide +kernel
theorem dL_law_288 : decode cL_law 288 = .ok (.iadd, 1) := by decide +kernel
theorem dL_law_289 : decode cL_law 289 = .ok (.iaload, 1) := by decide +kernel
theorem dL_law_290 : decode cL_law 290 = .ok (.invokevirtual 57, 3) := by decide +kernel
theorem dL_law_293 : decode cL_law 293 = .ok (.if_icmp .eq 133, 3) := by decide +kernel
theorem dL_law_296 : decode cL_law 296 = .ok (.iconst 0, 1) := by decide +kernel
theorem dL_law_297 : decode cL_law 297 = .ok (.ireturn, 1) := by decide +kernel
theorem dL_law_298 : decode cL_law 298 = .ok (.aload_n 1, 1) := by decide +kernel
theorem dL_law_299 : decode cL_law 299 = .ok (.aload_n 0, 1) := by decide +kernel
theorem dL_law_300 : decode cL_law 300 = .ok (.iload_n 3, 1) := by decide +kernel
theorem dL_law_301 : decode cL_law 301 = .ok (.iconst 1, 1) := by decide +kernel
theorem dL_law_302 : decode cL_law 302 = .ok (.iadd, 1) := by decide +kernel
theorem dL_law_303 : decode cL_law 303 = .ok (.iaload, 1) := by decide +kernel
theorem dL_law_304 : decode cL_law 304 = .ok (.invokevirtual 58, 3) := by decide +kernel
theorem dL_law_307 : decode cL_law 307 = .ok (.aload_n 2, 1) := by decide +kernel
theorem dL_law_308 : decode cL_law 308 = .ok (.aload_n 0, 1) := by decide +kernel
theorem dL_law_309 : decode cL_law 309 = .ok (.iload_n 3, 1) := by decide +kernel
theorem dL_law_310 : decode cL_law 310 = .ok (.iconst 1, 1) := by decide +kernel
theorem dL_law_311 : decode cL_law 311 = .ok (.iadd, 1) := by decide +kernel
theorem dL_law_312 : decode cL_law 312 = .ok (.iaload, 1) := by decide +kernel
theorem dL_law_313 : decode cL_law 313 = .ok (.invokevirtual 61, 3) := by decide +kernel
theorem dL_law_316 : decode cL_law 316 = .ok (.if_icmp .eq 110, 3) := by decide +kernel
theorem dL_law_319 : decode cL_law 319 = .ok (.iconst 0, 1) := by decide +kernel
theorem dL_law_320 : decode cL_law 320 = .ok (.ireturn, 1) := by decide +kernel
theorem dL_law_321 : decode cL_law 321 = .ok (.aload_n 1, 1) := by decide +kernel
theorem dL_law_322 : decode cL_law 322 = .ok (.aload_n 0, 1) := by decide +kernel
theorem dL_law_323 : decode cL_law 323 = .ok (.iload_n 3, 1) := by decide +kernel
theorem dL_law_324 : decode cL_law 324 = .ok (.iconst 1, 1) := by decide +kernel
theorem dL_law_325 : decode cL_law 325 = .ok (.iadd, 1) := by decide +kernel
theorem dL_law_326 : decode cL_law 326 = .ok (.iaload, 1) := by decide +kernel
theorem dL_law_327 : decode cL_law 327 = .ok (.invokevirtual 62, 3) := by decide +kernel
theorem dL_law_330 : decode cL_law 330 = .ok (.aload_n 2, 1) := by decide +kernel
theorem dL_law_331 : decode cL_law 331 = .ok (.aload_n 0, 1) := by decide +kernel
theorem dL_law_332 : decode cL_law 332 = .ok (.iload_n 3, 1) := by decide +kernel
theorem dL_law_333 : decode cL_law 333 = .ok (.iconst 1, 1) := by decide +kernel
theorem dL_law_334 : decode cL_law 334 = .ok (.iadd, 1) := by decide +kernel
theorem dL_law_335 : decode cL_law 335 = .ok (.iaload, 1) := by decide +kernel
theorem dL_law_336 : decode cL_law 336 = .ok (.invokevirtual 65, 3) := by decide +kernel
theorem dL_law_339 : decode cL_law 339 = .ok (.if_icmp .eq 87, 3) := by decide +kernel
theorem dL_law_342 : decode cL_law 342 = .ok (.iconst 0, 1) := by decide +kernel
theorem dL_law_343 : decode cL_law 343 = .ok (.ireturn, 1) := by decide +kernel
theorem dL_law_344 : decode cL_law 344 = .ok (.aload_n 1, 1) := by decide +kernel
theorem dL_law_345 : decode cL_law 345 = .ok (.aload_n 0, 1) := by decide +kernel
theorem dL_law_346 : decode cL_law 346 = .ok (.iload_n 3, 1) := by decide +kernel
theorem dL_law_347 : decode cL_law 347 = .ok (.iconst 1, 1) := by decide +kernel
theorem dL_law_348 : decode cL_law 348 = .ok (.iadd, 1) := by decide +kernel
theorem dL_law_349 : decode cL_law 349 = .ok (.iaload, 1) := by decide +kernel
theorem dL_law_350 : decode cL_law 350 = .ok (.invokevirtual 66, 3) := by decide +kernel
theorem dL_law_353 : decode cL_law 353 = .ok (.aload_n 2, 1) := by decide +kernel
theorem dL_law_354 : decode cL_law 354 = .ok (.aload_n 0, 1) := by decide +kernel
theorem dL_law_355 : decode cL_law 355 = .ok (.iload_n 3, 1) := by decide +kernel
theorem dL_law_356 : decode cL_law 356 = .ok (.iconst 1, 1) := by decide +kernel
theorem dL_law_357 : decode cL_law 357 = .ok (.iadd, 1) := by decide +kernel
theorem dL_law_358 : decode cL_law 358 = .ok (.iaload, 1) := by decide +kernel
theorem dL_law_359 : decode cL_law 359 = .ok (.invokevirtual 69, 3) := by decide +kernel
theorem dL_law_362 : decode cL_law 362 = .ok (.if_icmp .eq 64, 3) := by decide +kernel
theorem dL_law_365 : decode cL_law 365 = .ok (.iconst 0, 1) := by decide +kernel
theorem dL_law_366 : decode cL_law 366 = .ok (.ireturn, 1) := by decide +kernel
theorem dL_law_367 : decode cL_law 367 = .ok (.aload_n 1, 1) := by decide +kernel
theorem dL_law_368 : decode cL_law 368 = .ok (.aload_n 0, 1) := by decide +kernel
theorem dL_law_369 : decode cL_law 369 = .ok (.iload_n 3, 1) := by decide +kernel
theorem dL_law_370 : decode cL_law 370 = .ok (.iconst 1, 1) := by decide +kernel
theorem dL_law_371 : decode cL_law 371 = .ok (.iadd, 1) := by decide +kernel
theorem dL_law_372 : decode cL_law 372 = .ok (.iaload, 1) := by decide +kernel
theorem dL_law_373 : decode cL_law 373 = .ok (.invokevirtual 70, 3) := by decide +kernel
theorem dL_law_376 : decode cL_law 376 = .ok (.aload_n 2, 1) := by decide +kernel
theorem dL_law_377 : decode cL_law 377 = .ok (.aload_n 0, 1) := by decide +kernel
theorem dL_law_378 : decode cL_law 378 = .ok (.iload_n 3, 1) := by decide +kernel
theorem dL_law_379 : decode cL_law 379 = .ok (.iconst 1, 1) := by decide +kernel
theorem dL_law_380 : decode cL_law 380 = .ok (.iadd, 1) := by decide +kernel
theorem dL_law_381 : decode cL_law 381 = .ok (.iaload, 1) := by decide +kernel
theorem dL_law_382 : decode cL_law 382 = .ok (.invokevirtual 73, 3) := by decide +kernel
theorem dL_law_385 : decode cL_law 385 = .ok (.if_icmp .eq 41, 3) := by decide +kernel
theorem dL_law_388 : decode cL_law 388 = .ok (.iconst 0, 1) := by decide +kernel
theorem dL_law_389 : decode cL_law 389 = .ok (.ireturn, 1) := by decide +kernel
theorem dL_law_390 : decode cL_law 390 = .ok (.aload_n 1, 1) := by decide +kernel
theorem dL_law_391 : decode cL_law 391 = .ok (.aload_n 0, 1) := by decide +kernel
theorem dL_law_392 : decode cL_law 392 = .ok (.iload_n 3, 1) := by decide +kernel
theorem dL_law_393 : decode cL_law 393 = .ok (.iconst 1, 1) := by decide +kernel
theorem dL_law_394 : decode cL_law 394 = .ok (.iadd, 1) := by decide +kernel
theorem dL_law_395 : decode cL_law 395 = .ok (.iaload, 1) := by decide +kernel
theorem dL_law_396 : decode cL_law 396 = .ok (.invokevirtual 74, 3) := by decide +kernel
theorem dL_law_399 : decode cL_law 399 = .ok (.aload_n 2, 1) := by decide +kernel
theorem dL_law_400 : decode cL_law 400 = .ok (.aload_n 0, 1) := by decide +kernel
theorem dL_law_401 : decode cL_law 401 = .ok (.iload_n 3, 1) := by decide +kernel
theorem dL_law_402 : decode cL_law 402 = .ok (.iconst 1, 1) := by decide +kernel
theorem dL_law_403 : decode cL_law 403 = .ok (.iadd, 1) := by decide +kernel
theorem dL_law_404 : decode cL_law 404 = .ok (.iaload, 1) := by decide +kernel
theorem dL_law_405 : decode cL_law 405 = .ok (.invokevirtual 77, 3) := by decide +kernel
theorem dL_law_408 : decode cL_law 408 = .ok (.if_icmp .eq 18, 3) := by decide +kernel
theorem dL_law_411 : decode cL_law 411 = .ok (.iconst 0, 1) := by decide +kernel
theorem dL_law_412 : decode cL_law 412 = .ok (.ireturn, 1) := by decide +kernel
theorem dL_law_413 : decode cL_law 413 = .ok (.aload_n 1, 1) := by decide +kernel
theorem dL_law_414 : decode cL_law 414 = .ok (.invokevirtual 78, 3) := by decide +kernel
theorem dL_law_417 : decode cL_law 417 = .ok (.aload_n 2, 1) := by decide +kernel
theorem dL_law_418 : decode cL_law 418 = .ok (.invokevirtual 81, 3) := by decide +kernel
theorem dL_law_421 : decode cL_law 421 = .ok (.if_icmp .eq 5, 3) := by decide +kernel
theorem dL_law_424 : decode cL_law 424 = .ok (.iconst 0, 1) := by decide +kernel
theorem dL_law_425 : decode cL_law 425 = .ok (.ireturn, 1) := by decide +kernel
theorem dL_law_426 : decode cL_law 426 = .ok (.iinc 3 4, 3) := by decide +kernel
theorem dL_law_429 : decode cL_law 429 = .ok (.goto (-391), 3) := by decide +kernel
theorem dL_law_432 : decode cL_law 432 = .ok (.iconst 1, 1) := by decide +kernel
theorem dL_law_433 : decode cL_law 433 = .ok (.ireturn, 1) := by decide +kernel
end
section
/-! ParagraphBreaker -/
set_option maxRecDepth 100000
def RX1 : String := "ParagraphBreaker"
def TX1 : u_T := fun k => match k with
  | 0 => ("ParagraphBreaker", "width", "I", false)
  | 1 => ("ParagraphBreaker", "extra", "I", true)
  | 2 => ("ParagraphBreaker", "widths", "[B", true)
  | 3 => ("ParagraphBreaker", "penalties", "[B", true)
  | 4 => ("ParagraphBreaker", "count", "I", false)
  | 5 => ("ParagraphBreaker", "barred", "I", false)
  | 6 => ("ParagraphBreaker", "onward", "[I", true)
  | 7 => ("ParagraphBreaker", "upTo", "[I", true)
  | 8 => ("ParagraphBreaker", "best", "[I", true)
  | _ => ("ParagraphBreaker", "ways", "[I", true)
def tyX1 : Nat → FieldType := fun k => match k with
  | 0 => .int
  | 1 => .int
  | 2 => .array .byte
  | 3 => .array .byte
  | 4 => .int
  | 5 => .int
  | 6 => .array .int
  | 7 => .array .int
  | 8 => .array .int
  | _ => .array .int
abbrev wsX10 : List Cond := u_ws RX1 TX1 10
theorem nmX1 : ∀ a, a < 10 → ∀ b, b < 10 → a ≠ b → (TX1 a).2.1 ≠ (TX1 b).2.1 := by decide +kernel
theorem tyX1_ok : ∀ k, k < 10 → parseFieldDescriptor (TX1 k).2.2.1 = some (tyX1 k) := by decide +kernel
abbrev cX1_init : ByteArray := prog_1_method_1_code
def yX1_init : MethodName := ⟨RX1, "<init>", "(II)V"⟩
abbrev cX1_word : ByteArray := prog_1_method_3_code
def yX1_word : MethodName := ⟨RX1, "word", "(II)I"⟩
abbrev cX1_wordOk : ByteArray := prog_1_method_2_code
def yX1_wordOk : MethodName := ⟨RX1, "wordOk", "(II)Z"⟩
abbrev cX1_back : ByteArray := prog_1_method_4_code
def yX1_back : MethodName := ⟨RX1, "back", "()I"⟩
abbrev cX1_change : ByteArray := prog_1_method_5_code
def yX1_change : MethodName := ⟨RX1, "change", "(III)Z"⟩
abbrev cX1_setWidth : ByteArray := prog_1_method_6_code
def yX1_setWidth : MethodName := ⟨RX1, "setWidth", "(I)Z"⟩
abbrev cX1_words : ByteArray := prog_1_method_7_code
def yX1_words : MethodName := ⟨RX1, "words", "()I"⟩
abbrev cX1_cost : ByteArray := prog_1_method_18_code
def yX1_cost : MethodName := ⟨RX1, "cost", "()I"⟩
abbrev cX1_start : ByteArray := prog_1_method_14_code
def yX1_start : MethodName := ⟨RX1, "start", "()V"⟩
abbrev cX1_learn : ByteArray := prog_1_method_11_code
def yX1_learn : MethodName := ⟨RX1, "learn", "()V"⟩
abbrev cX1_leastOnward : ByteArray := prog_1_method_12_code
def yX1_leastOnward : MethodName := ⟨RX1, "leastOnward", "(II)I"⟩
abbrev cX1_lineCost : ByteArray := prog_1_method_10_code
def yX1_lineCost : MethodName := ⟨RX1, "lineCost", "(II)I"⟩
abbrev cX1_length : ByteArray := prog_1_method_8_code
def yX1_length : MethodName := ⟨RX1, "length", "(II)I"⟩
abbrev cX1_penalised : ByteArray := prog_1_method_9_code
def yX1_penalised : MethodName := ⟨RX1, "penalised", "(I)Z"⟩
abbrev cX1_findBest : ByteArray := prog_1_method_13_code
def yX1_findBest : MethodName := ⟨RX1, "findBest", "(I)V"⟩
abbrev cX1_lines : ByteArray := prog_1_method_19_code
def yX1_lines : MethodName := ⟨RX1, "lines", "()I"⟩
abbrev cX1_fewestLines : ByteArray := prog_1_method_15_code
def yX1_fewestLines : MethodName := ⟨RX1, "fewestLines", "()I"⟩
abbrev cX1_lineOf : ByteArray := prog_1_method_20_code
def yX1_lineOf : MethodName := ⟨RX1, "lineOf", "(I)I"⟩
abbrev cX1_endOfLine : ByteArray := prog_1_method_17_code
def yX1_endOfLine : MethodName := ⟨RX1, "endOfLine", "(I)I"⟩
abbrev cX1_firstEnd : ByteArray := prog_1_method_16_code
def yX1_firstEnd : MethodName := ⟨RX1, "firstEnd", "(II)I"⟩
abbrev cX1_endOf : ByteArray := prog_1_method_21_code
def yX1_endOf : MethodName := ⟨RX1, "endOf", "(I)I"⟩
abbrev cX1_lengthOf : ByteArray := prog_1_method_22_code
def yX1_lengthOf : MethodName := ⟨RX1, "lengthOf", "(I)I"⟩
abbrev cX1_costWith : ByteArray := prog_1_method_23_code
def yX1_costWith : MethodName := ⟨RX1, "costWith", "(I)I"⟩
abbrev cX1_costBreaking : ByteArray := prog_1_method_24_code
def yX1_costBreaking : MethodName := ⟨RX1, "costBreaking", "(I)I"⟩
abbrev cX1_findUpTo : ByteArray := prog_1_method_25_code
def yX1_findUpTo : MethodName := ⟨RX1, "findUpTo", "()V"⟩
abbrev cX1_costKeeping : ByteArray := prog_1_method_26_code
def yX1_costKeeping : MethodName := ⟨RX1, "costKeeping", "(I)I"⟩
abbrev cX1_choices : ByteArray := prog_1_method_27_code
def yX1_choices : MethodName := ⟨RX1, "choices", "()I"⟩
theorem q21 : (Jvm.Cond.initialized "ParagraphBreaker") ∈ lw_all := lw_g (lw_at lw_m1 1 rfl) rfl
theorem q24 : (Jvm.Cond.instantiable "ParagraphBreaker" (10 : Nat)) ∈ lw_all := lw_g (lw_at lw_m1 4 rfl) rfl
theorem q26 : (Jvm.Cond.instanceMethod ({ cls := "ParagraphBreaker", name := "<init>", desc := "(II)V" } : Jvm.MethodName)) ∈ lw_all := lw_g (lw_at lw_m1 6 rfl) rfl
theorem q27 : (Jvm.Cond.code ({ cls := "ParagraphBreaker", name := "<init>", desc := "(II)V" } : Jvm.MethodName) prog_1_method_1_code (3 : Nat) (Option.none : Option Jvm.ClassFile.FieldType)) ∈ lw_all := lw_g (lw_at lw_m1 7 rfl) rfl
theorem q28 : (Jvm.Cond.methodLink "ParagraphBreaker" (1 : Nat) ({ cls := "java/lang/Object", name := "<init>", desc := "()V" } : Jvm.MethodName)) ∈ lw_all := lw_g (lw_at lw_m1 8 rfl) rfl
theorem q31 : (Jvm.Cond.fieldLink "ParagraphBreaker" (29 : Nat) "ParagraphBreaker" "width" "I") ∈ lw_all := lw_g (lw_at lw_m1 11 rfl) rfl
theorem q32 : (Jvm.Cond.fieldLink "ParagraphBreaker" (33 : Nat) "ParagraphBreaker" "extra" "I") ∈ lw_all := lw_g (lw_at lw_m1 12 rfl) rfl
theorem q33 : (Jvm.Cond.fieldLink "ParagraphBreaker" (7 : Nat) "ParagraphBreaker" "widths" "[B") ∈ lw_all := lw_g (lw_at lw_m1 13 rfl) rfl
theorem q34 : (Jvm.Cond.fieldLink "ParagraphBreaker" (13 : Nat) "ParagraphBreaker" "penalties" "[B") ∈ lw_all := lw_g (lw_at lw_m1 14 rfl) rfl
theorem q35 : (Jvm.Cond.fieldLink "ParagraphBreaker" (40 : Nat) "ParagraphBreaker" "count" "I") ∈ lw_all := lw_g (lw_at lw_m1 15 rfl) rfl
theorem q36 : (Jvm.Cond.fieldLink "ParagraphBreaker" (47 : Nat) "ParagraphBreaker" "barred" "I") ∈ lw_all := lw_g (lw_at lw_m1 16 rfl) rfl
theorem q37 : (Jvm.Cond.fieldLink "ParagraphBreaker" (16 : Nat) "ParagraphBreaker" "onward" "[I") ∈ lw_all := lw_g (lw_at lw_m1 17 rfl) rfl
theorem q38 : (Jvm.Cond.fieldLink "ParagraphBreaker" (20 : Nat) "ParagraphBreaker" "upTo" "[I") ∈ lw_all := lw_g (lw_at lw_m1 18 rfl) rfl
theorem q39 : (Jvm.Cond.fieldLink "ParagraphBreaker" (23 : Nat) "ParagraphBreaker" "best" "[I") ∈ lw_all := lw_g (lw_at lw_m1 19 rfl) rfl
theorem q40 : (Jvm.Cond.fieldLink "ParagraphBreaker" (26 : Nat) "ParagraphBreaker" "ways" "[I") ∈ lw_all := lw_g (lw_at lw_m1 20 rfl) rfl
theorem q41 : (Jvm.Cond.lays "ParagraphBreaker" "ParagraphBreaker" "width" "I") ∈ lw_all := lw_g (lw_at lw_m1 21 rfl) rfl
theorem q42 : (Jvm.Cond.soleField "ParagraphBreaker" "width") ∈ lw_all := lw_g (lw_at lw_m1 22 rfl) rfl
theorem q43 : (Jvm.Cond.laysFinal "ParagraphBreaker" "ParagraphBreaker" "extra" "I") ∈ lw_all := lw_g (lw_at lw_m1 23 rfl) rfl
theorem q44 : (Jvm.Cond.soleField "ParagraphBreaker" "extra") ∈ lw_all := lw_g (lw_at lw_m1 24 rfl) rfl
theorem q45 : (Jvm.Cond.laysFinal "ParagraphBreaker" "ParagraphBreaker" "widths" "[B") ∈ lw_all := lw_g (lw_at lw_m1 25 rfl) rfl
theorem q46 : (Jvm.Cond.soleField "ParagraphBreaker" "widths") ∈ lw_all := lw_g (lw_at lw_m1 26 rfl) rfl
theorem q47 : (Jvm.Cond.laysFinal "ParagraphBreaker" "ParagraphBreaker" "penalties" "[B") ∈ lw_all := lw_g (lw_at lw_m1 27 rfl) rfl
theorem q48 : (Jvm.Cond.soleField "ParagraphBreaker" "penalties") ∈ lw_all := lw_g (lw_at lw_m1 28 rfl) rfl
theorem q49 : (Jvm.Cond.lays "ParagraphBreaker" "ParagraphBreaker" "count" "I") ∈ lw_all := lw_g (lw_at lw_m1 29 rfl) rfl
theorem q50 : (Jvm.Cond.soleField "ParagraphBreaker" "count") ∈ lw_all := lw_g (lw_at lw_m1 30 rfl) rfl
theorem q51 : (Jvm.Cond.lays "ParagraphBreaker" "ParagraphBreaker" "barred" "I") ∈ lw_all := lw_g (lw_at lw_m1 31 rfl) rfl
theorem q52 : (Jvm.Cond.soleField "ParagraphBreaker" "barred") ∈ lw_all := lw_g (lw_at lw_m1 32 rfl) rfl
theorem q53 : (Jvm.Cond.laysFinal "ParagraphBreaker" "ParagraphBreaker" "onward" "[I") ∈ lw_all := lw_g (lw_at lw_m1 33 rfl) rfl
theorem q54 : (Jvm.Cond.soleField "ParagraphBreaker" "onward") ∈ lw_all := lw_g (lw_at lw_m1 34 rfl) rfl
theorem q55 : (Jvm.Cond.laysFinal "ParagraphBreaker" "ParagraphBreaker" "upTo" "[I") ∈ lw_all := lw_g (lw_at lw_m1 35 rfl) rfl
theorem q56 : (Jvm.Cond.soleField "ParagraphBreaker" "upTo") ∈ lw_all := lw_g (lw_at lw_m1 36 rfl) rfl
theorem q57 : (Jvm.Cond.laysFinal "ParagraphBreaker" "ParagraphBreaker" "best" "[I") ∈ lw_all := lw_g (lw_at lw_m1 37 rfl) rfl
theorem q58 : (Jvm.Cond.soleField "ParagraphBreaker" "best") ∈ lw_all := lw_g (lw_at lw_m1 38 rfl) rfl
theorem q59 : (Jvm.Cond.laysFinal "ParagraphBreaker" "ParagraphBreaker" "ways" "[I") ∈ lw_all := lw_g (lw_at lw_m1 39 rfl) rfl
theorem q60 : (Jvm.Cond.soleField "ParagraphBreaker" "ways") ∈ lw_all := lw_g (lw_at lw_m1 40 rfl) rfl
theorem q61 : (Jvm.Cond.superclass "ParagraphBreaker" "java/lang/Object") ∈ lw_all := lw_g (lw_at lw_m1 41 rfl) rfl
theorem q65 : (Jvm.Cond.instanceMethod ({ cls := "ParagraphBreaker", name := "word", desc := "(II)I" } : Jvm.MethodName)) ∈ lw_all := lw_g (lw_at lw_m1 45 rfl) rfl
theorem q66 : (Jvm.Cond.selects "ParagraphBreaker" ({ cls := "ParagraphBreaker", name := "word", desc := "(II)I" } : Jvm.MethodName) ({ cls := "ParagraphBreaker", name := "word", desc := "(II)I" } : Jvm.MethodName)) ∈ lw_all := lw_g (lw_at lw_m1 46 rfl) rfl
theorem q67 : (Jvm.Cond.code ({ cls := "ParagraphBreaker", name := "word", desc := "(II)I" } : Jvm.MethodName) prog_1_method_3_code (3 : Nat) (Option.some Jvm.ClassFile.FieldType.int)) ∈ lw_all := lw_g (lw_at lw_m1 47 rfl) rfl
theorem q68 : (Jvm.Cond.methodLink "ParagraphBreaker" (36 : Nat) ({ cls := "ParagraphBreaker", name := "wordOk", desc := "(II)Z" } : Jvm.MethodName)) ∈ lw_all := lw_g (lw_at lw_m1 48 rfl) rfl
theorem q69 : (Jvm.Cond.static ({ cls := "ParagraphBreaker", name := "wordOk", desc := "(II)Z" } : Jvm.MethodName)) ∈ lw_all := lw_g (lw_at lw_m1 49 rfl) rfl
theorem q70 : (Jvm.Cond.code ({ cls := "ParagraphBreaker", name := "wordOk", desc := "(II)Z" } : Jvm.MethodName) prog_1_method_2_code (2 : Nat) (Option.some Jvm.ClassFile.FieldType.boolean)) ∈ lw_all := lw_g (lw_at lw_m1 50 rfl) rfl
theorem q72 : (Jvm.Cond.instanceMethod ({ cls := "ParagraphBreaker", name := "back", desc := "()I" } : Jvm.MethodName)) ∈ lw_all := lw_g (lw_at lw_m1 52 rfl) rfl
theorem q73 : (Jvm.Cond.selects "ParagraphBreaker" ({ cls := "ParagraphBreaker", name := "back", desc := "()I" } : Jvm.MethodName) ({ cls := "ParagraphBreaker", name := "back", desc := "()I" } : Jvm.MethodName)) ∈ lw_all := lw_g (lw_at lw_m1 53 rfl) rfl
theorem q74 : (Jvm.Cond.code ({ cls := "ParagraphBreaker", name := "back", desc := "()I" } : Jvm.MethodName) prog_1_method_4_code (1 : Nat) (Option.some Jvm.ClassFile.FieldType.int)) ∈ lw_all := lw_g (lw_at lw_m1 54 rfl) rfl
theorem q76 : (Jvm.Cond.instanceMethod ({ cls := "ParagraphBreaker", name := "change", desc := "(III)Z" } : Jvm.MethodName)) ∈ lw_all := lw_g (lw_at lw_m1 56 rfl) rfl
theorem q77 : (Jvm.Cond.selects "ParagraphBreaker" ({ cls := "ParagraphBreaker", name := "change", desc := "(III)Z" } : Jvm.MethodName) ({ cls := "ParagraphBreaker", name := "change", desc := "(III)Z" } : Jvm.MethodName)) ∈ lw_all := lw_g (lw_at lw_m1 57 rfl) rfl
theorem q78 : (Jvm.Cond.code ({ cls := "ParagraphBreaker", name := "change", desc := "(III)Z" } : Jvm.MethodName) prog_1_method_5_code (4 : Nat) (Option.some Jvm.ClassFile.FieldType.boolean)) ∈ lw_all := lw_g (lw_at lw_m1 58 rfl) rfl
theorem q80 : (Jvm.Cond.instanceMethod ({ cls := "ParagraphBreaker", name := "setWidth", desc := "(I)Z" } : Jvm.MethodName)) ∈ lw_all := lw_g (lw_at lw_m1 60 rfl) rfl
theorem q81 : (Jvm.Cond.selects "ParagraphBreaker" ({ cls := "ParagraphBreaker", name := "setWidth", desc := "(I)Z" } : Jvm.MethodName) ({ cls := "ParagraphBreaker", name := "setWidth", desc := "(I)Z" } : Jvm.MethodName)) ∈ lw_all := lw_g (lw_at lw_m1 61 rfl) rfl
theorem q82 : (Jvm.Cond.code ({ cls := "ParagraphBreaker", name := "setWidth", desc := "(I)Z" } : Jvm.MethodName) prog_1_method_6_code (2 : Nat) (Option.some Jvm.ClassFile.FieldType.boolean)) ∈ lw_all := lw_g (lw_at lw_m1 62 rfl) rfl
theorem q84 : (Jvm.Cond.instanceMethod ({ cls := "ParagraphBreaker", name := "words", desc := "()I" } : Jvm.MethodName)) ∈ lw_all := lw_g (lw_at lw_m1 64 rfl) rfl
theorem q85 : (Jvm.Cond.selects "ParagraphBreaker" ({ cls := "ParagraphBreaker", name := "words", desc := "()I" } : Jvm.MethodName) ({ cls := "ParagraphBreaker", name := "words", desc := "()I" } : Jvm.MethodName)) ∈ lw_all := lw_g (lw_at lw_m1 65 rfl) rfl
theorem q86 : (Jvm.Cond.code ({ cls := "ParagraphBreaker", name := "words", desc := "()I" } : Jvm.MethodName) prog_1_method_7_code (1 : Nat) (Option.some Jvm.ClassFile.FieldType.int)) ∈ lw_all := lw_g (lw_at lw_m1 66 rfl) rfl
theorem q88 : (Jvm.Cond.instanceMethod ({ cls := "ParagraphBreaker", name := "cost", desc := "()I" } : Jvm.MethodName)) ∈ lw_all := lw_g (lw_at lw_m1 68 rfl) rfl
theorem q89 : (Jvm.Cond.selects "ParagraphBreaker" ({ cls := "ParagraphBreaker", name := "cost", desc := "()I" } : Jvm.MethodName) ({ cls := "ParagraphBreaker", name := "cost", desc := "()I" } : Jvm.MethodName)) ∈ lw_all := lw_g (lw_at lw_m1 69 rfl) rfl
theorem q90 : (Jvm.Cond.code ({ cls := "ParagraphBreaker", name := "cost", desc := "()I" } : Jvm.MethodName) prog_1_method_18_code (1 : Nat) (Option.some Jvm.ClassFile.FieldType.int)) ∈ lw_all := lw_g (lw_at lw_m1 70 rfl) rfl
theorem q91 : (Jvm.Cond.methodLink "ParagraphBreaker" (68 : Nat) ({ cls := "ParagraphBreaker", name := "start", desc := "()V" } : Jvm.MethodName)) ∈ lw_all := lw_g (lw_at lw_m1 71 rfl) rfl
theorem q92 : (Jvm.Cond.privateMethod ({ cls := "ParagraphBreaker", name := "start", desc := "()V" } : Jvm.MethodName)) ∈ lw_tbl := lw_at lw_m1 72 rfl
theorem q93 : (Jvm.Cond.instanceMethod ({ cls := "ParagraphBreaker", name := "start", desc := "()V" } : Jvm.MethodName)) ∈ lw_all := lw_g (lw_at lw_m1 73 rfl) rfl
theorem q94 : (Jvm.Cond.code ({ cls := "ParagraphBreaker", name := "start", desc := "()V" } : Jvm.MethodName) prog_1_method_14_code (1 : Nat) (Option.none : Option Jvm.ClassFile.FieldType)) ∈ lw_all := lw_g (lw_at lw_m1 74 rfl) rfl
theorem q95 : (Jvm.Cond.methodLink "ParagraphBreaker" (65 : Nat) ({ cls := "ParagraphBreaker", name := "learn", desc := "()V" } : Jvm.MethodName)) ∈ lw_all := lw_g (lw_at lw_m1 75 rfl) rfl
theorem q96 : (Jvm.Cond.privateMethod ({ cls := "ParagraphBreaker", name := "learn", desc := "()V" } : Jvm.MethodName)) ∈ lw_tbl := lw_at lw_m1 76 rfl
theorem q97 : (Jvm.Cond.instanceMethod ({ cls := "ParagraphBreaker", name := "learn", desc := "()V" } : Jvm.MethodName)) ∈ lw_all := lw_g (lw_at lw_m1 77 rfl) rfl
theorem q98 : (Jvm.Cond.code ({ cls := "ParagraphBreaker", name := "learn", desc := "()V" } : Jvm.MethodName) prog_1_method_11_code (3 : Nat) (Option.none : Option Jvm.ClassFile.FieldType)) ∈ lw_all := lw_g (lw_at lw_m1 78 rfl) rfl
theorem q99 : (Jvm.Cond.constant "ParagraphBreaker" (50 : Nat) (1000000 : Int32)) ∈ lw_all := lw_g (lw_at lw_m1 79 rfl) rfl
theorem q100 : (Jvm.Cond.methodLink "ParagraphBreaker" (55 : Nat) ({ cls := "ParagraphBreaker", name := "leastOnward", desc := "(II)I" } : Jvm.MethodName)) ∈ lw_all := lw_g (lw_at lw_m1 80 rfl) rfl
theorem q101 : (Jvm.Cond.privateMethod ({ cls := "ParagraphBreaker", name := "leastOnward", desc := "(II)I" } : Jvm.MethodName)) ∈ lw_tbl := lw_at lw_m1 81 rfl
theorem q102 : (Jvm.Cond.instanceMethod ({ cls := "ParagraphBreaker", name := "leastOnward", desc := "(II)I" } : Jvm.MethodName)) ∈ lw_all := lw_g (lw_at lw_m1 82 rfl) rfl
theorem q103 : (Jvm.Cond.code ({ cls := "ParagraphBreaker", name := "leastOnward", desc := "(II)I" } : Jvm.MethodName) prog_1_method_12_code (7 : Nat) (Option.some Jvm.ClassFile.FieldType.int)) ∈ lw_all := lw_g (lw_at lw_m1 83 rfl) rfl
theorem q104 : (Jvm.Cond.methodLink "ParagraphBreaker" (62 : Nat) ({ cls := "ParagraphBreaker", name := "lineCost", desc := "(II)I" } : Jvm.MethodName)) ∈ lw_all := lw_g (lw_at lw_m1 84 rfl) rfl
theorem q105 : (Jvm.Cond.privateMethod ({ cls := "ParagraphBreaker", name := "lineCost", desc := "(II)I" } : Jvm.MethodName)) ∈ lw_tbl := lw_at lw_m1 85 rfl
theorem q106 : (Jvm.Cond.instanceMethod ({ cls := "ParagraphBreaker", name := "lineCost", desc := "(II)I" } : Jvm.MethodName)) ∈ lw_all := lw_g (lw_at lw_m1 86 rfl) rfl
theorem q107 : (Jvm.Cond.code ({ cls := "ParagraphBreaker", name := "lineCost", desc := "(II)I" } : Jvm.MethodName) prog_1_method_10_code (6 : Nat) (Option.some Jvm.ClassFile.FieldType.int)) ∈ lw_all := lw_g (lw_at lw_m1 87 rfl) rfl
theorem q108 : (Jvm.Cond.methodLink "ParagraphBreaker" (43 : Nat) ({ cls := "ParagraphBreaker", name := "length", desc := "(II)I" } : Jvm.MethodName)) ∈ lw_all := lw_g (lw_at lw_m1 88 rfl) rfl
theorem q109 : (Jvm.Cond.privateMethod ({ cls := "ParagraphBreaker", name := "length", desc := "(II)I" } : Jvm.MethodName)) ∈ lw_tbl := lw_at lw_m1 89 rfl
theorem q110 : (Jvm.Cond.instanceMethod ({ cls := "ParagraphBreaker", name := "length", desc := "(II)I" } : Jvm.MethodName)) ∈ lw_all := lw_g (lw_at lw_m1 90 rfl) rfl
theorem q111 : (Jvm.Cond.code ({ cls := "ParagraphBreaker", name := "length", desc := "(II)I" } : Jvm.MethodName) prog_1_method_8_code (5 : Nat) (Option.some Jvm.ClassFile.FieldType.int)) ∈ lw_all := lw_g (lw_at lw_m1 91 rfl) rfl
theorem q112 : (Jvm.Cond.methodLink "ParagraphBreaker" (51 : Nat) ({ cls := "ParagraphBreaker", name := "penalised", desc := "(I)Z" } : Jvm.MethodName)) ∈ lw_all := lw_g (lw_at lw_m1 92 rfl) rfl
theorem q113 : (Jvm.Cond.privateMethod ({ cls := "ParagraphBreaker", name := "penalised", desc := "(I)Z" } : Jvm.MethodName)) ∈ lw_tbl := lw_at lw_m1 93 rfl
theorem q114 : (Jvm.Cond.instanceMethod ({ cls := "ParagraphBreaker", name := "penalised", desc := "(I)Z" } : Jvm.MethodName)) ∈ lw_all := lw_g (lw_at lw_m1 94 rfl) rfl
theorem q115 : (Jvm.Cond.code ({ cls := "ParagraphBreaker", name := "penalised", desc := "(I)Z" } : Jvm.MethodName) prog_1_method_9_code (2 : Nat) (Option.some Jvm.ClassFile.FieldType.boolean)) ∈ lw_all := lw_g (lw_at lw_m1 95 rfl) rfl
theorem q116 : (Jvm.Cond.methodLink "ParagraphBreaker" (58 : Nat) ({ cls := "ParagraphBreaker", name := "findBest", desc := "(I)V" } : Jvm.MethodName)) ∈ lw_all := lw_g (lw_at lw_m1 96 rfl) rfl
theorem q117 : (Jvm.Cond.privateMethod ({ cls := "ParagraphBreaker", name := "findBest", desc := "(I)V" } : Jvm.MethodName)) ∈ lw_tbl := lw_at lw_m1 97 rfl
theorem q118 : (Jvm.Cond.instanceMethod ({ cls := "ParagraphBreaker", name := "findBest", desc := "(I)V" } : Jvm.MethodName)) ∈ lw_all := lw_g (lw_at lw_m1 98 rfl) rfl
theorem q119 : (Jvm.Cond.code ({ cls := "ParagraphBreaker", name := "findBest", desc := "(I)V" } : Jvm.MethodName) prog_1_method_13_code (5 : Nat) (Option.none : Option Jvm.ClassFile.FieldType)) ∈ lw_all := lw_g (lw_at lw_m1 99 rfl) rfl
theorem q120 : (Jvm.Cond.constant "ParagraphBreaker" (78 : Nat) (-1000000 : Int32)) ∈ lw_all := lw_g (lw_at lw_m1 100 rfl) rfl
theorem q122 : (Jvm.Cond.instanceMethod ({ cls := "ParagraphBreaker", name := "lines", desc := "()I" } : Jvm.MethodName)) ∈ lw_all := lw_g (lw_at lw_m1 102 rfl) rfl
theorem q123 : (Jvm.Cond.selects "ParagraphBreaker" ({ cls := "ParagraphBreaker", name := "lines", desc := "()I" } : Jvm.MethodName) ({ cls := "ParagraphBreaker", name := "lines", desc := "()I" } : Jvm.MethodName)) ∈ lw_all := lw_g (lw_at lw_m1 103 rfl) rfl
theorem q124 : (Jvm.Cond.code ({ cls := "ParagraphBreaker", name := "lines", desc := "()I" } : Jvm.MethodName) prog_1_method_19_code (2 : Nat) (Option.some Jvm.ClassFile.FieldType.int)) ∈ lw_all := lw_g (lw_at lw_m1 104 rfl) rfl
theorem q125 : (Jvm.Cond.methodLink "ParagraphBreaker" (71 : Nat) ({ cls := "ParagraphBreaker", name := "fewestLines", desc := "()I" } : Jvm.MethodName)) ∈ lw_all := lw_g (lw_at lw_m1 105 rfl) rfl
theorem q126 : (Jvm.Cond.privateMethod ({ cls := "ParagraphBreaker", name := "fewestLines", desc := "()I" } : Jvm.MethodName)) ∈ lw_tbl := lw_at lw_m1 106 rfl
theorem q127 : (Jvm.Cond.instanceMethod ({ cls := "ParagraphBreaker", name := "fewestLines", desc := "()I" } : Jvm.MethodName)) ∈ lw_all := lw_g (lw_at lw_m1 107 rfl) rfl
theorem q128 : (Jvm.Cond.code ({ cls := "ParagraphBreaker", name := "fewestLines", desc := "()I" } : Jvm.MethodName) prog_1_method_15_code (2 : Nat) (Option.some Jvm.ClassFile.FieldType.int)) ∈ lw_all := lw_g (lw_at lw_m1 108 rfl) rfl
theorem q130 : (Jvm.Cond.instanceMethod ({ cls := "ParagraphBreaker", name := "lineOf", desc := "(I)I" } : Jvm.MethodName)) ∈ lw_all := lw_g (lw_at lw_m1 110 rfl) rfl
theorem q131 : (Jvm.Cond.selects "ParagraphBreaker" ({ cls := "ParagraphBreaker", name := "lineOf", desc := "(I)I" } : Jvm.MethodName) ({ cls := "ParagraphBreaker", name := "lineOf", desc := "(I)I" } : Jvm.MethodName)) ∈ lw_all := lw_g (lw_at lw_m1 111 rfl) rfl
theorem q132 : (Jvm.Cond.code ({ cls := "ParagraphBreaker", name := "lineOf", desc := "(I)I" } : Jvm.MethodName) prog_1_method_20_code (5 : Nat) (Option.some Jvm.ClassFile.FieldType.int)) ∈ lw_all := lw_g (lw_at lw_m1 112 rfl) rfl
theorem q133 : (Jvm.Cond.methodLink "ParagraphBreaker" (79 : Nat) ({ cls := "ParagraphBreaker", name := "lines", desc := "()I" } : Jvm.MethodName)) ∈ lw_all := lw_g (lw_at lw_m1 113 rfl) rfl
theorem q134 : (Jvm.Cond.methodLink "ParagraphBreaker" (82 : Nat) ({ cls := "ParagraphBreaker", name := "endOfLine", desc := "(I)I" } : Jvm.MethodName)) ∈ lw_all := lw_g (lw_at lw_m1 114 rfl) rfl
theorem q135 : (Jvm.Cond.privateMethod ({ cls := "ParagraphBreaker", name := "endOfLine", desc := "(I)I" } : Jvm.MethodName)) ∈ lw_tbl := lw_at lw_m1 115 rfl
theorem q136 : (Jvm.Cond.instanceMethod ({ cls := "ParagraphBreaker", name := "endOfLine", desc := "(I)I" } : Jvm.MethodName)) ∈ lw_all := lw_g (lw_at lw_m1 116 rfl) rfl
theorem q137 : (Jvm.Cond.code ({ cls := "ParagraphBreaker", name := "endOfLine", desc := "(I)I" } : Jvm.MethodName) prog_1_method_17_code (5 : Nat) (Option.some Jvm.ClassFile.FieldType.int)) ∈ lw_all := lw_g (lw_at lw_m1 117 rfl) rfl
theorem q138 : (Jvm.Cond.methodLink "ParagraphBreaker" (75 : Nat) ({ cls := "ParagraphBreaker", name := "firstEnd", desc := "(II)I" } : Jvm.MethodName)) ∈ lw_all := lw_g (lw_at lw_m1 118 rfl) rfl
theorem q139 : (Jvm.Cond.privateMethod ({ cls := "ParagraphBreaker", name := "firstEnd", desc := "(II)I" } : Jvm.MethodName)) ∈ lw_tbl := lw_at lw_m1 119 rfl
theorem q140 : (Jvm.Cond.instanceMethod ({ cls := "ParagraphBreaker", name := "firstEnd", desc := "(II)I" } : Jvm.MethodName)) ∈ lw_all := lw_g (lw_at lw_m1 120 rfl) rfl
theorem q141 : (Jvm.Cond.code ({ cls := "ParagraphBreaker", name := "firstEnd", desc := "(II)I" } : Jvm.MethodName) prog_1_method_16_code (7 : Nat) (Option.some Jvm.ClassFile.FieldType.int)) ∈ lw_all := lw_g (lw_at lw_m1 121 rfl) rfl
theorem q143 : (Jvm.Cond.instanceMethod ({ cls := "ParagraphBreaker", name := "endOf", desc := "(I)I" } : Jvm.MethodName)) ∈ lw_all := lw_g (lw_at lw_m1 123 rfl) rfl
theorem q144 : (Jvm.Cond.selects "ParagraphBreaker" ({ cls := "ParagraphBreaker", name := "endOf", desc := "(I)I" } : Jvm.MethodName) ({ cls := "ParagraphBreaker", name := "endOf", desc := "(I)I" } : Jvm.MethodName)) ∈ lw_all := lw_g (lw_at lw_m1 124 rfl) rfl
theorem q145 : (Jvm.Cond.code ({ cls := "ParagraphBreaker", name := "endOf", desc := "(I)I" } : Jvm.MethodName) prog_1_method_21_code (3 : Nat) (Option.some Jvm.ClassFile.FieldType.int)) ∈ lw_all := lw_g (lw_at lw_m1 125 rfl) rfl
theorem q147 : (Jvm.Cond.instanceMethod ({ cls := "ParagraphBreaker", name := "lengthOf", desc := "(I)I" } : Jvm.MethodName)) ∈ lw_all := lw_g (lw_at lw_m1 127 rfl) rfl
theorem q148 : (Jvm.Cond.selects "ParagraphBreaker" ({ cls := "ParagraphBreaker", name := "lengthOf", desc := "(I)I" } : Jvm.MethodName) ({ cls := "ParagraphBreaker", name := "lengthOf", desc := "(I)I" } : Jvm.MethodName)) ∈ lw_all := lw_g (lw_at lw_m1 128 rfl) rfl
theorem q149 : (Jvm.Cond.code ({ cls := "ParagraphBreaker", name := "lengthOf", desc := "(I)I" } : Jvm.MethodName) prog_1_method_22_code (4 : Nat) (Option.some Jvm.ClassFile.FieldType.int)) ∈ lw_all := lw_g (lw_at lw_m1 129 rfl) rfl
theorem q151 : (Jvm.Cond.instanceMethod ({ cls := "ParagraphBreaker", name := "costWith", desc := "(I)I" } : Jvm.MethodName)) ∈ lw_all := lw_g (lw_at lw_m1 131 rfl) rfl
theorem q152 : (Jvm.Cond.selects "ParagraphBreaker" ({ cls := "ParagraphBreaker", name := "costWith", desc := "(I)I" } : Jvm.MethodName) ({ cls := "ParagraphBreaker", name := "costWith", desc := "(I)I" } : Jvm.MethodName)) ∈ lw_all := lw_g (lw_at lw_m1 132 rfl) rfl
theorem q153 : (Jvm.Cond.code ({ cls := "ParagraphBreaker", name := "costWith", desc := "(I)I" } : Jvm.MethodName) prog_1_method_23_code (2 : Nat) (Option.some Jvm.ClassFile.FieldType.int)) ∈ lw_all := lw_g (lw_at lw_m1 133 rfl) rfl
theorem q155 : (Jvm.Cond.instanceMethod ({ cls := "ParagraphBreaker", name := "costBreaking", desc := "(I)I" } : Jvm.MethodName)) ∈ lw_all := lw_g (lw_at lw_m1 135 rfl) rfl
theorem q156 : (Jvm.Cond.selects "ParagraphBreaker" ({ cls := "ParagraphBreaker", name := "costBreaking", desc := "(I)I" } : Jvm.MethodName) ({ cls := "ParagraphBreaker", name := "costBreaking", desc := "(I)I" } : Jvm.MethodName)) ∈ lw_all := lw_g (lw_at lw_m1 136 rfl) rfl
theorem q157 : (Jvm.Cond.code ({ cls := "ParagraphBreaker", name := "costBreaking", desc := "(I)I" } : Jvm.MethodName) prog_1_method_24_code (3 : Nat) (Option.some Jvm.ClassFile.FieldType.int)) ∈ lw_all := lw_g (lw_at lw_m1 137 rfl) rfl
theorem q158 : (Jvm.Cond.methodLink "ParagraphBreaker" (86 : Nat) ({ cls := "ParagraphBreaker", name := "findUpTo", desc := "()V" } : Jvm.MethodName)) ∈ lw_all := lw_g (lw_at lw_m1 138 rfl) rfl
theorem q159 : (Jvm.Cond.privateMethod ({ cls := "ParagraphBreaker", name := "findUpTo", desc := "()V" } : Jvm.MethodName)) ∈ lw_tbl := lw_at lw_m1 139 rfl
theorem q160 : (Jvm.Cond.instanceMethod ({ cls := "ParagraphBreaker", name := "findUpTo", desc := "()V" } : Jvm.MethodName)) ∈ lw_all := lw_g (lw_at lw_m1 140 rfl) rfl
theorem q161 : (Jvm.Cond.code ({ cls := "ParagraphBreaker", name := "findUpTo", desc := "()V" } : Jvm.MethodName) prog_1_method_25_code (4 : Nat) (Option.none : Option Jvm.ClassFile.FieldType)) ∈ lw_all := lw_g (lw_at lw_m1 141 rfl) rfl
theorem q163 : (Jvm.Cond.instanceMethod ({ cls := "ParagraphBreaker", name := "costKeeping", desc := "(I)I" } : Jvm.MethodName)) ∈ lw_all := lw_g (lw_at lw_m1 143 rfl) rfl
theorem q164 : (Jvm.Cond.selects "ParagraphBreaker" ({ cls := "ParagraphBreaker", name := "costKeeping", desc := "(I)I" } : Jvm.MethodName) ({ cls := "ParagraphBreaker", name := "costKeeping", desc := "(I)I" } : Jvm.MethodName)) ∈ lw_all := lw_g (lw_at lw_m1 144 rfl) rfl
theorem q165 : (Jvm.Cond.code ({ cls := "ParagraphBreaker", name := "costKeeping", desc := "(I)I" } : Jvm.MethodName) prog_1_method_26_code (2 : Nat) (Option.some Jvm.ClassFile.FieldType.int)) ∈ lw_all := lw_g (lw_at lw_m1 145 rfl) rfl
theorem q167 : (Jvm.Cond.instanceMethod ({ cls := "ParagraphBreaker", name := "choices", desc := "()I" } : Jvm.MethodName)) ∈ lw_all := lw_g (lw_at lw_m1 147 rfl) rfl
theorem q168 : (Jvm.Cond.selects "ParagraphBreaker" ({ cls := "ParagraphBreaker", name := "choices", desc := "()I" } : Jvm.MethodName) ({ cls := "ParagraphBreaker", name := "choices", desc := "()I" } : Jvm.MethodName)) ∈ lw_all := lw_g (lw_at lw_m1 148 rfl) rfl
theorem q169 : (Jvm.Cond.code ({ cls := "ParagraphBreaker", name := "choices", desc := "()I" } : Jvm.MethodName) prog_1_method_27_code (1 : Nat) (Option.some Jvm.ClassFile.FieldType.int)) ∈ lw_all := lw_g (lw_at lw_m1 149 rfl) rfl
theorem in_X1 : ∀ w ∈ wsX10, w ∈ lw_all := lw_in wsX10 [41, 43, 45, 47, 49, 51, 53, 55, 57, 59] (by decide +kernel) (by decide +kernel)

theorem dX1_init_0 : decode cX1_init 0 = .ok (.aload_n 0, 1) := by decide +kernel
theorem dX1_init_1 : decode cX1_init 1 = .ok (.invokespecial 1, 3) := by decide +kernel
theorem dX1_init_4 : decode cX1_init 4 = .ok (.aload_n 0, 1) := by decide +kernel
theorem dX1_init_5 : decode cX1_init 5 = .ok (.bipush 10, 2) := by decide +kernel
theorem dX1_init_7 : decode cX1_init 7 = .ok (.newarray .byte, 2) := by decide +kernel
theorem dX1_init_9 : decode cX1_init 9 = .ok (.putfield 7, 3) := by decide +kernel
theorem dX1_init_12 : decode cX1_init 12 = .ok (.aload_n 0, 1) := by decide +kernel
theorem dX1_init_13 : decode cX1_init 13 = .ok (.bipush 10, 2) := by decide +kernel
theorem dX1_init_15 : decode cX1_init 15 = .ok (.newarray .byte, 2) := by decide +kernel
theorem dX1_init_17 : decode cX1_init 17 = .ok (.putfield 13, 3) := by decide +kernel
theorem dX1_init_20 : decode cX1_init 20 = .ok (.aload_n 0, 1) := by decide +kernel
theorem dX1_init_21 : decode cX1_init 21 = .ok (.bipush 121, 2) := by decide +kernel
theorem dX1_init_23 : decode cX1_init 23 = .ok (.newarray .int, 2) := by decide +kernel
theorem dX1_init_25 : decode cX1_init 25 = .ok (.putfield 16, 3) := by decide +kernel
theorem dX1_init_28 : decode cX1_init 28 = .ok (.aload_n 0, 1) := by decide +kernel
theorem dX1_init_29 : decode cX1_init 29 = .ok (.bipush 11, 2) := by decide +kernel
theorem dX1_init_31 : decode cX1_init 31 = .ok (.newarray .int, 2) := by decide +kernel
theorem dX1_init_33 : decode cX1_init 33 = .ok (.putfield 20, 3) := by decide +kernel
theorem dX1_init_36 : decode cX1_init 36 = .ok (.aload_n 0, 1) := by decide +kernel
theorem dX1_init_37 : decode cX1_init 37 = .ok (.bipush 11, 2) := by decide +kernel
theorem dX1_init_39 : decode cX1_init 39 = .ok (.newarray .int, 2) := by decide +kernel
theorem dX1_init_41 : decode cX1_init 41 = .ok (.putfield 23, 3) := by decide +kernel
theorem dX1_init_44 : decode cX1_init 44 = .ok (.aload_n 0, 1) := by decide +kernel
theorem dX1_init_45 : decode cX1_init 45 = .ok (.bipush 11, 2) := by decide +kernel
theorem dX1_init_47 : decode cX1_init 47 = .ok (.newarray .int, 2) := by decide +kernel
theorem dX1_init_49 : decode cX1_init 49 = .ok (.putfield 26, 3) := by decide +kernel
theorem dX1_init_52 : decode cX1_init 52 = .ok (.aload_n 0, 1) := by decide +kernel
theorem dX1_init_53 : decode cX1_init 53 = .ok (.iload_n 1, 1) := by decide +kernel
theorem dX1_init_54 : decode cX1_init 54 = .ok (.iconst 5, 1) := by decide +kernel
theorem dX1_init_55 : decode cX1_init 55 = .ok (.if_icmp .ge 7, 3) := by decide +kernel
theorem dX1_init_58 : decode cX1_init 58 = .ok (.iconst 5, 1) := by decide +kernel
theorem dX1_init_59 : decode cX1_init 59 = .ok (.goto 15, 3) := by decide +kernel
theorem dX1_init_62 : decode cX1_init 62 = .ok (.iload_n 1, 1) := by decide +kernel
theorem dX1_init_63 : decode cX1_init 63 = .ok (.bipush 60, 2) := by decide +kernel
theorem dX1_init_65 : decode cX1_init 65 = .ok (.if_icmp .le 8, 3) := by decide +kernel
theorem dX1_init_68 : decode cX1_init 68 = .ok (.bipush 60, 2) := by decide +kernel
theorem dX1_init_70 : decode cX1_init 70 = .ok (.goto 4, 3) := by decide +kernel
theorem dX1_init_73 : decode cX1_init 73 = .ok (.iload_n 1, 1) := by decide +kernel
theorem dX1_init_74 : decode cX1_init 74 = .ok (.putfield 29, 3) := by decide +kernel
theorem dX1_init_77 : decode cX1_init 77 = .ok (.aload_n 0, 1) := by decide +kernel
theorem dX1_init_78 : decode cX1_init 78 = .ok (.iload_n 2, 1) := by decide +kernel
theorem dX1_init_79 : decode cX1_init 79 = .ok (.ifCond .ge 7, 3) := by decide +kernel
theorem dX1_init_82 : decode cX1_init 82 = .ok (.iconst 0, 1) := by decide +kernel
theorem dX1_init_83 : decode cX1_init 83 = .ok (.goto 15, 3) := by decide +kernel
theorem dX1_init_86 : decode cX1_init 86 = .ok (.iload_n 2, 1) := by decide +kernel
theorem dX1_init_87 : decode cX1_init 87 = .ok (.bipush 100, 2) := by decide +kernel
theorem dX1_init_89 : decode cX1_init 89 = .ok (.if_icmp .le 8, 3) := by decide +kernel
theorem dX1_init_92 : decode cX1_init 92 = .ok (.bipush 100, 2) := by decide +kernel
theorem dX1_init_94 : decode cX1_init 94 = .ok (.goto 4, 3) := by decide +kernel
theorem dX1_init_97 : decode cX1_init 97 = .ok (.iload_n 2, 1) := by decide +kernel
theorem dX1_init_98 : decode cX1_init 98 = .ok (.putfield 33, 3) := by decide +kernel
theorem dX1_init_101 : decode cX1_init 101 = .ok (.return_, 1) := by decide +kernel
theorem dX1_word_0 : decode cX1_word 0 = .ok (.iload_n 1, 1) := by decide +kernel
theorem dX1_word_1 : decode cX1_word 1 = .ok (.iload_n 2, 1) := by decide +kernel
theorem dX1_word_2 : decode cX1_word 2 = .ok (.invokestatic 36, 3) := by decide +kernel
theorem dX1_word_5 : decode cX1_word 5 = .ok (.ifCond .ne 5, 3) := by decide +kernel
theorem dX1_word_8 : decode cX1_word 8 = .ok (.iconst (-1), 1) := by decide +kernel
theorem dX1_word_9 : decode cX1_word 9 = .ok (.ireturn, 1) := by decide +kernel
theorem dX1_word_10 : decode cX1_word 10 = .ok (.aload_n 0, 1) := by decide +kernel
theorem dX1_word_11 : decode cX1_word 11 = .ok (.getfield 40, 3) := by decide +kernel
theorem dX1_word_14 : decode cX1_word 14 = .ok (.bipush 10, 2) := by decide +kernel
theorem dX1_word_16 : decode cX1_word 16 = .ok (.if_icmp .lt 6, 3) := by decide +kernel
theorem dX1_word_19 : decode cX1_word 19 = .ok (.bipush (-2), 2) := by decide +kernel
theorem dX1_word_21 : decode cX1_word 21 = .ok (.ireturn, 1) := by decide +kernel
theorem dX1_word_22 : decode cX1_word 22 = .ok (.aload_n 0, 1) := by decide +kernel
theorem dX1_word_23 : decode cX1_word 23 = .ok (.getfield 7, 3) := by decide +kernel
theorem dX1_word_26 : decode cX1_word 26 = .ok (.aload_n 0, 1) := by decide +kernel
theorem dX1_word_27 : decode cX1_word 27 = .ok (.getfield 40, 3) := by decide +kernel
theorem dX1_word_30 : decode cX1_word 30 = .ok (.iload_n 1, 1) := by decide +kernel
theorem dX1_word_31 : decode cX1_word 31 = .ok (.i2b, 1) := by decide +kernel
theorem dX1_word_32 : decode cX1_word 32 = .ok (.bastore, 1) := by decide +kernel
theorem dX1_word_33 : decode cX1_word 33 = .ok (.aload_n 0, 1) := by decide +kernel
theorem dX1_word_34 : decode cX1_word 34 = .ok (.getfield 13, 3) := by decide +kernel
theorem dX1_word_37 : decode cX1_word 37 = .ok (.aload_n 0, 1) := by decide +kernel
theorem dX1_word_38 : decode cX1_word 38 = .ok (.getfield 40, 3) := by decide +kernel
theorem dX1_word_41 : decode cX1_word 41 = .ok (.iload_n 2, 1) := by decide +kernel
theorem dX1_word_42 : decode cX1_word 42 = .ok (.i2b, 1) := by decide +kernel
theorem dX1_word_43 : decode cX1_word 43 = .ok (.bastore, 1) := by decide +kernel
theorem dX1_word_44 : decode cX1_word 44 = .ok (.aload_n 0, 1) := by decide +kernel
theorem dX1_word_45 : decode cX1_word 45 = .ok (.dup, 1) := by decide +kernel
theorem dX1_word_46 : decode cX1_word 46 = .ok (.getfield 40, 3) := by decide +kernel
theorem dX1_word_49 : decode cX1_word 49 = .ok (.iconst 1, 1) := by decide +kernel
theorem dX1_word_50 : decode cX1_word 50 = .ok (.iadd, 1) := by decide +kernel
theorem dX1_word_51 : decode cX1_word 51 = .ok (.putfield 40, 3) := by decide +kernel
theorem dX1_word_54 : decode cX1_word 54 = .ok (.aload_n 0, 1) := by decide +kernel
theorem dX1_word_55 : decode cX1_word 55 = .ok (.getfield 40, 3) := by decide +kernel
theorem dX1_word_58 : decode cX1_word 58 = .ok (.iconst 1, 1) := by decide +kernel
theorem dX1_word_59 : decode cX1_word 59 = .ok (.isub, 1) := by decide +kernel
theorem dX1_word_60 : decode cX1_word 60 = .ok (.ireturn, 1) := by decide +kernel
theorem dX1_wordOk_0 : decode cX1_wordOk 0 = .ok (.iload_n 0, 1) := by decide +kernel
theorem dX1_wordOk_1 : decode cX1_wordOk 1 = .ok (.iconst 1, 1) := by decide +kernel
theorem dX1_wordOk_2 : decode cX1_wordOk 2 = .ok (.if_icmp .lt 25, 3) := by decide +kernel
theorem dX1_wordOk_5 : decode cX1_wordOk 5 = .ok (.iload_n 0, 1) := by decide +kernel
theorem dX1_wordOk_6 : decode cX1_wordOk 6 = .ok (.bipush 12, 2) := by decide +kernel
theorem dX1_wordOk_8 : decode cX1_wordOk 8 = .ok (.if_icmp .gt 19, 3) := by decide +kernel
theorem dX1_wordOk_11 : decode cX1_wordOk 11 = .ok (.iload_n 1, 1) := by decide +kernel
theorem dX1_wordOk_12 : decode cX1_wordOk 12 = .ok (.bipush (-40), 2) := by decide +kernel
theorem dX1_wordOk_14 : decode cX1_wordOk 14 = .ok (.if_icmp .lt 13, 3) := by decide +kernel
theorem dX1_wordOk_17 : decode cX1_wordOk 17 = .ok (.iload_n 1, 1) := by decide +kernel
theorem dX1_wordOk_18 : decode cX1_wordOk 18 = .ok (.bipush 40, 2) := by decide +kernel
theorem dX1_wordOk_20 : decode cX1_wordOk 20 = .ok (.if_icmp .gt 7, 3) := by decide +kernel
theorem dX1_wordOk_23 : decode cX1_wordOk 23 = .ok (.iconst 1, 1) := by decide +kernel
theorem dX1_wordOk_24 : decode cX1_wordOk 24 = .ok (.goto 4, 3) := by decide +kernel
theorem dX1_wordOk_27 : decode cX1_wordOk 27 = .ok (.iconst 0, 1) := by decide +kernel
theorem dX1_wordOk_28 : decode cX1_wordOk 28 = .ok (.ireturn, 1) := by decide +kernel
theorem dX1_back_0 : decode cX1_back 0 = .ok (.aload_n 0, 1) := by decide +kernel
theorem dX1_back_1 : decode cX1_back 1 = .ok (.getfield 40, 3) := by decide +kernel
theorem dX1_back_4 : decode cX1_back 4 = .ok (.ifCond .ne 5, 3) := by decide +kernel
theorem dX1_back_7 : decode cX1_back 7 = .ok (.iconst (-1), 1) := by decide +kernel
theorem dX1_back_8 : decode cX1_back 8 = .ok (.ireturn, 1) := by decide +kernel
theorem dX1_back_9 : decode cX1_back 9 = .ok (.aload_n 0, 1) := by decide +kernel
theorem dX1_back_10 : decode cX1_back 10 = .ok (.dup, 1) := by decide +kernel
theorem dX1_back_11 : decode cX1_back 11 = .ok (.getfield 40, 3) := by decide +kernel
theorem dX1_back_14 : decode cX1_back 14 = .ok (.iconst 1, 1) := by decide +kernel
theorem dX1_back_15 : decode cX1_back 15 = .ok (.isub, 1) := by decide +kernel
theorem dX1_back_16 : decode cX1_back 16 = .ok (.putfield 40, 3) := by decide +kernel
theorem dX1_back_19 : decode cX1_back 19 = .ok (.aload_n 0, 1) := by decide +kernel
theorem dX1_back_20 : decode cX1_back 20 = .ok (.getfield 40, 3) := by decide +kernel
theorem dX1_back_23 : decode cX1_back 23 = .ok (.ireturn, 1) := by decide +kernel
theorem dX1_change_0 : decode cX1_change 0 = .ok (.iload_n 1, 1) := by decide +kernel
theorem dX1_change_1 : decode cX1_change 1 = .ok (.ifCond .lt 19, 3) := by decide +kernel
theorem dX1_change_4 : decode cX1_change 4 = .ok (.iload_n 1, 1) := by decide +kernel
theorem dX1_change_5 : decode cX1_change 5 = .ok (.aload_n 0, 1) := by decide +kernel
theorem dX1_change_6 : decode cX1_change 6 = .ok (.getfield 40, 3) := by decide +kernel
theorem dX1_change_9 : decode cX1_change 9 = .ok (.if_icmp .ge 11, 3) := by decide +kernel
theorem dX1_change_12 : decode cX1_change 12 = .ok (.iload_n 2, 1) := by decide +kernel
theorem dX1_change_13 : decode cX1_change 13 = .ok (.iload_n 3, 1) := by decide +kernel
theorem dX1_change_14 : decode cX1_change 14 = .ok (.invokestatic 36, 3) := by decide +kernel
theorem dX1_change_17 : decode cX1_change 17 = .ok (.ifCond .ne 5, 3) := by decide +kernel
theorem dX1_change_20 : decode cX1_change 20 = .ok (.iconst 0, 1) := by decide +kernel
theorem dX1_change_21 : decode cX1_change 21 = .ok (.ireturn, 1) := by decide +kernel
theorem dX1_change_22 : decode cX1_change 22 = .ok (.aload_n 0, 1) := by decide +kernel
theorem dX1_change_23 : decode cX1_change 23 = .ok (.getfield 7, 3) := by decide +kernel
theorem dX1_change_26 : decode cX1_change 26 = .ok (.iload_n 1, 1) := by decide +kernel
theorem dX1_change_27 : decode cX1_change 27 = .ok (.iload_n 2, 1) := by decide +kernel
theorem dX1_change_28 : decode cX1_change 28 = .ok (.i2b, 1) := by decide +kernel
theorem dX1_change_29 : decode cX1_change 29 = .ok (.bastore, 1) := by decide +kernel
theorem dX1_change_30 : decode cX1_change 30 = .ok (.aload_n 0, 1) := by decide +kernel
theorem dX1_change_31 : decode cX1_change 31 = .ok (.getfield 13, 3) := by decide +kernel
theorem dX1_change_34 : decode cX1_change 34 = .ok (.iload_n 1, 1) := by decide +kernel
theorem dX1_change_35 : decode cX1_change 35 = .ok (.iload_n 3, 1) := by decide +kernel
theorem dX1_change_36 : decode cX1_change 36 = .ok (.i2b, 1) := by decide +kernel
theorem dX1_change_37 : decode cX1_change 37 = .ok (.bastore, 1) := by decide +kernel
theorem dX1_change_38 : decode cX1_change 38 = .ok (.iconst 1, 1) := by decide +kernel
theorem dX1_change_39 : decode cX1_change 39 = .ok (.ireturn, 1) := by decide +kernel
theorem dX1_setWidth_0 : decode cX1_setWidth 0 = .ok (.iload_n 1, 1) := by decide +kernel
theorem dX1_setWidth_1 : decode cX1_setWidth 1 = .ok (.iconst 5, 1) := by decide +kernel
theorem dX1_setWidth_2 : decode cX1_setWidth 2 = .ok (.if_icmp .lt 9, 3) := by decide +kernel
theorem dX1_setWidth_5 : decode cX1_setWidth 5 = .ok (.iload_n 1, 1) := by decide +kernel
theorem dX1_setWidth_6 : decode cX1_setWidth 6 = .ok (.bipush 60, 2) := by decide +kernel
theorem dX1_setWidth_8 : decode cX1_setWidth 8 = .ok (.if_icmp .le 5, 3) := by decide +kernel
theorem dX1_setWidth_11 : decode cX1_setWidth 11 = .ok (.iconst 0, 1) := by decide +kernel
theorem dX1_setWidth_12 : decode cX1_setWidth 12 = .ok (.ireturn, 1) := by decide +kernel
theorem dX1_setWidth_13 : decode cX1_setWidth 13 = .ok (.aload_n 0, 1) := by decide +kernel
theorem dX1_setWidth_14 : decode cX1_setWidth 14 = .ok (.iload_n 1, 1) := by decide +kernel
theorem dX1_setWidth_15 : decode cX1_setWidth 15 = .ok (.putfield 29, 3) := by decide +kernel
theorem dX1_setWidth_18 : decode cX1_setWidth 18 = .ok (.iconst 1, 1) := by decide +kernel
theorem dX1_setWidth_19 : decode cX1_setWidth 19 = .ok (.ireturn, 1) := by decide +kernel
theorem dX1_words_0 : decode cX1_words 0 = .ok (.aload_n 0, 1) := by decide +kernel
theorem dX1_words_1 : decode cX1_words 1 = .ok (.getfield 40, 3) := by decide +kernel
theorem dX1_words_4 : decode cX1_words 4 = .ok (.ireturn, 1) := by decide +kernel
theorem dX1_cost_0 : decode cX1_cost 0 = .ok (.aload_n 0, 1) := by decide +kernel
theorem dX1_cost_1 : decode cX1_cost 1 = .ok (.invokevirtual 68, 3) := by decide +kernel
theorem dX1_cost_4 : decode cX1_cost 4 = .ok (.aload_n 0, 1) := by decide +kernel
theorem dX1_cost_5 : decode cX1_cost 5 = .ok (.getfield 23, 3) := by decide +kernel
theorem dX1_cost_8 : decode cX1_cost 8 = .ok (.iconst 0, 1) := by decide +kernel
theorem dX1_cost_9 : decode cX1_cost 9 = .ok (.iaload, 1) := by decide +kernel
theorem dX1_cost_10 : decode cX1_cost 10 = .ok (.ldc 50, 2) := by decide +kernel
theorem dX1_cost_12 : decode cX1_cost 12 = .ok (.if_icmp .ge 12, 3) := by decide +kernel
theorem dX1_cost_15 : decode cX1_cost 15 = .ok (.aload_n 0, 1) := by decide +kernel
theorem dX1_cost_16 : decode cX1_cost 16 = .ok (.getfield 23, 3) := by decide +kernel
theorem dX1_cost_19 : decode cX1_cost 19 = .ok (.iconst 0, 1) := by decide +kernel
theorem dX1_cost_20 : decode cX1_cost 20 = .ok (.iaload, 1) := by decide +kernel
theorem dX1_cost_21 : decode cX1_cost 21 = .ok (.goto 5, 3) := by decide +kernel
theorem dX1_cost_24 : decode cX1_cost 24 = .ok (.ldc 78, 2) := by decide +kernel
theorem dX1_cost_26 : decode cX1_cost 26 = .ok (.ireturn, 1) := by decide +kernel
theorem dX1_start_0 : decode cX1_start 0 = .ok (.aload_n 0, 1) := by decide +kernel
theorem dX1_start_1 : decode cX1_start 1 = .ok (.iconst (-1), 1) := by decide +kernel
theorem dX1_start_2 : decode cX1_start 2 = .ok (.putfield 47, 3) := by decide +kernel
theorem dX1_start_5 : decode cX1_start 5 = .ok (.aload_n 0, 1) := by decide +kernel
theorem dX1_start_6 : decode cX1_start 6 = .ok (.invokevirtual 65, 3) := by decide +kernel
theorem dX1_start_9 : decode cX1_start 9 = .ok (.return_, 1) := by decide +kernel
theorem dX1_learn_0 : decode cX1_learn 0 = .ok (.iconst 0, 1) := by decide +kernel
theorem dX1_learn_1 : decode cX1_learn 1 = .ok (.istore_n 1, 1) := by decide +kernel
theorem dX1_learn_2 : decode cX1_learn 2 = .ok (.iload_n 1, 1) := by decide +kernel
theorem dX1_learn_3 : decode cX1_learn 3 = .ok (.bipush 10, 2) := by decide +kernel
theorem dX1_learn_5 : decode cX1_learn 5 = .ok (.if_icmp .gt 44, 3) := by decide +kernel
theorem dX1_learn_8 : decode cX1_learn 8 = .ok (.aload_n 0, 1) := by decide +kernel
theorem dX1_learn_9 : decode cX1_learn 9 = .ok (.getfield 16, 3) := by decide +kernel
theorem dX1_learn_12 : decode cX1_learn 12 = .ok (.iload_n 1, 1) := by decide +kernel
theorem dX1_learn_13 : decode cX1_learn 13 = .ok (.iload_n 1, 1) := by decide +kernel
theorem dX1_learn_14 : decode cX1_learn 14 = .ok (.aload_n 0, 1) := by decide +kernel
theorem dX1_learn_15 : decode cX1_learn 15 = .ok (.getfield 40, 3) := by decide +kernel
theorem dX1_learn_18 : decode cX1_learn 18 = .ok (.if_icmp .ne 7, 3) := by decide +kernel
theorem dX1_learn_21 : decode cX1_learn 21 = .ok (.iconst 0, 1) := by decide +kernel
theorem dX1_learn_22 : decode cX1_learn 22 = .ok (.goto 5, 3) := by decide +kernel
theorem dX1_learn_25 : decode cX1_learn 25 = .ok (.ldc 50, 2) := by decide +kernel
theorem dX1_learn_27 : decode cX1_learn 27 = .ok (.iastore, 1) := by decide +kernel
theorem dX1_learn_28 : decode cX1_learn 28 = .ok (.aload_n 0, 1) := by decide +kernel
theorem dX1_learn_29 : decode cX1_learn 29 = .ok (.getfield 23, 3) := by decide +kernel
theorem dX1_learn_32 : decode cX1_learn 32 = .ok (.iload_n 1, 1) := by decide +kernel
theorem dX1_learn_33 : decode cX1_learn 33 = .ok (.ldc 50, 2) := by decide +kernel
theorem dX1_learn_35 : decode cX1_learn 35 = .ok (.iastore, 1) := by decide +kernel
theorem dX1_learn_36 : decode cX1_learn 36 = .ok (.aload_n 0, 1) := by decide +kernel
theorem dX1_learn_37 : decode cX1_learn 37 = .ok (.getfield 26, 3) := by decide +kernel
theorem dX1_learn_40 : decode cX1_learn 40 = .ok (.iload_n 1, 1) := by decide +kernel
theorem dX1_learn_41 : decode cX1_learn 41 = .ok (.iconst 0, 1) := by decide +kernel
theorem dX1_learn_42 : decode cX1_learn 42 = .ok (.iastore, 1) := by decide +kernel
theorem dX1_learn_43 : decode cX1_learn 43 = .ok (.iinc 1 1, 3) := by decide +kernel
theorem dX1_learn_46 : decode cX1_learn 46 = .ok (.goto (-44), 3) := by decide +kernel
theorem dX1_learn_49 : decode cX1_learn 49 = .ok (.aload_n 0, 1) := by decide +kernel
theorem dX1_learn_50 : decode cX1_learn 50 = .ok (.getfield 23, 3) := by decide +kernel
theorem dX1_learn_53 : decode cX1_learn 53 = .ok (.aload_n 0, 1) := by decide +kernel
theorem dX1_learn_54 : decode cX1_learn 54 = .ok (.getfield 40, 3) := by decide +kernel
theorem dX1_learn_57 : decode cX1_learn 57 = .ok (.iconst 0, 1) := by decide +kernel
theorem dX1_learn_58 : decode cX1_learn 58 = .ok (.iastore, 1) := by decide +kernel
theorem dX1_learn_59 : decode cX1_learn 59 = .ok (.aload_n 0, 1) := by decide +kernel
theorem dX1_learn_60 : decode cX1_learn 60 = .ok (.getfield 26, 3) := by decide +kernel
theorem dX1_learn_63 : decode cX1_learn 63 = .ok (.aload_n 0, 1) := by decide +kernel
theorem dX1_learn_64 : decode cX1_learn 64 = .ok (.getfield 40, 3) := by decide +kernel
theorem dX1_learn_67 : decode cX1_learn 67 = .ok (.iconst 1, 1) := by decide +kernel
theorem dX1_learn_68 : decode cX1_learn 68 = .ok (.iastore, 1) := by decide +kernel
theorem dX1_learn_69 : decode cX1_learn 69 = .ok (.iconst 1, 1) := by decide +kernel
theorem dX1_learn_70 : decode cX1_learn 70 = .ok (.istore_n 1, 1) := by decide +kernel
theorem dX1_learn_71 : decode cX1_learn 71 = .ok (.iload_n 1, 1) := by decide +kernel
theorem dX1_learn_72 : decode cX1_learn 72 = .ok (.bipush 10, 2) := by decide +kernel
theorem dX1_learn_74 : decode cX1_learn 74 = .ok (.if_icmp .gt 40, 3) := by decide +kernel
theorem dX1_learn_77 : decode cX1_learn 77 = .ok (.iconst 0, 1) := by decide +kernel
theorem dX1_learn_78 : decode cX1_learn 78 = .ok (.istore_n 2, 1) := by decide +kernel
theorem dX1_learn_79 : decode cX1_learn 79 = .ok (.iload_n 2, 1) := by decide +kernel
theorem dX1_learn_80 : decode cX1_learn 80 = .ok (.bipush 10, 2) := by decide +kernel
theorem dX1_learn_82 : decode cX1_learn 82 = .ok (.if_icmp .gt 26, 3) := by decide +kernel
theorem dX1_learn_85 : decode cX1_learn 85 = .ok (.aload_n 0, 1) := by decide +kernel
theorem dX1_learn_86 : decode cX1_learn 86 = .ok (.getfield 16, 3) := by decide +kernel
theorem dX1_learn_89 : decode cX1_learn 89 = .ok (.iload_n 1, 1) := by decide +kernel
theorem dX1_learn_90 : decode cX1_learn 90 = .ok (.bipush 11, 2) := by decide +kernel
theorem dX1_learn_92 : decode cX1_learn 92 = .ok (.imul, 1) := by decide +kernel
theorem dX1_learn_93 : decode cX1_learn 93 = .ok (.iload_n 2, 1) := by decide +kernel
theorem dX1_learn_94 : decode cX1_learn 94 = .ok (.iadd, 1) := by decide +kernel
theorem dX1_learn_95 : decode cX1_learn 95 = .ok (.aload_n 0, 1) := by decide +kernel
theorem dX1_learn_96 : decode cX1_learn 96 = .ok (.iload_n 1, 1) := by decide +kernel
theorem dX1_learn_97 : decode cX1_learn 97 = .ok (.iload_n 2, 1) := by decide +kernel
theorem dX1_learn_98 : decode cX1_learn 98 = .ok (.invokevirtual 55, 3) := by decide +kernel
theorem dX1_learn_101 : decode cX1_learn 101 = .ok (.iastore, 1) := by decide +kernel
theorem dX1_learn_102 : decode cX1_learn 102 = .ok (.iinc 2 1, 3) := by decide +kernel
theorem dX1_learn_105 : decode cX1_learn 105 = .ok (.goto (-26), 3) := by decide +kernel
theorem dX1_learn_108 : decode cX1_learn 108 = .ok (.iinc 1 1, 3) := by decide +kernel
theorem dX1_learn_111 : decode cX1_learn 111 = .ok (.goto (-40), 3) := by decide +kernel
theorem dX1_learn_114 : decode cX1_learn 114 = .ok (.aload_n 0, 1) := by decide +kernel
theorem dX1_learn_115 : decode cX1_learn 115 = .ok (.getfield 40, 3) := by decide +kernel
theorem dX1_learn_118 : decode cX1_learn 118 = .ok (.iconst 1, 1) := by decide +kernel
theorem dX1_learn_119 : decode cX1_learn 119 = .ok (.isub, 1) := by decide +kernel
theorem dX1_learn_120 : decode cX1_learn 120 = .ok (.istore_n 1, 1) := by decide +kernel
theorem dX1_learn_121 : decode cX1_learn 121 = .ok (.iload_n 1, 1) := by decide +kernel
theorem dX1_learn_122 : decode cX1_learn 122 = .ok (.ifCond .lt 14, 3) := by decide +kernel
theorem dX1_learn_125 : decode cX1_learn 125 = .ok (.aload_n 0, 1) := by decide +kernel
theorem dX1_learn_126 : decode cX1_learn 126 = .ok (.iload_n 1, 1) := by decide +kernel
theorem dX1_learn_127 : decode cX1_learn 127 = .ok (.invokevirtual 58, 3) := by decide +kernel
theorem dX1_learn_130 : decode cX1_learn 130 = .ok (.iinc 1 (-1), 3) := by decide +kernel
theorem dX1_learn_133 : decode cX1_learn 133 = .ok (.goto (-12), 3) := by decide +kernel
theorem dX1_learn_136 : decode cX1_learn 136 = .ok (.return_, 1) := by decide +kernel
theorem dX1_leastOnward_0 : decode cX1_leastOnward 0 = .ok (.ldc 50, 2) := by decide +kernel
theorem dX1_leastOnward_2 : decode cX1_leastOnward 2 = .ok (.istore_n 3, 1) := by decide +kernel
theorem dX1_leastOnward_3 : decode cX1_leastOnward 3 = .ok (.iload_n 2, 1) := by decide +kernel
theorem dX1_leastOnward_4 : decode cX1_leastOnward 4 = .ok (.iconst 1, 1) := by decide +kernel
theorem dX1_leastOnward_5 : decode cX1_leastOnward 5 = .ok (.iadd, 1) := by decide +kernel
theorem dX1_leastOnward_6 : decode cX1_leastOnward 6 = .ok (.istore 4, 2) := by decide +kernel
theorem dX1_leastOnward_8 : decode cX1_leastOnward 8 = .ok (.iload 4, 2) := by decide +kernel
theorem dX1_leastOnward_10 : decode cX1_leastOnward 10 = .ok (.aload_n 0, 1) := by decide +kernel
theorem dX1_leastOnward_11 : decode cX1_leastOnward 11 = .ok (.getfield 40, 3) := by decide +kernel
theorem dX1_leastOnward_14 : decode cX1_leastOnward 14 = .ok (.if_icmp .gt 63, 3) := by decide +kernel
theorem dX1_leastOnward_17 : decode cX1_leastOnward 17 = .ok (.aload_n 0, 1) := by decide +kernel
theorem dX1_leastOnward_18 : decode cX1_leastOnward 18 = .ok (.iload_n 2, 1) := by decide +kernel
theorem dX1_leastOnward_19 : decode cX1_leastOnward 19 = .ok (.iload 4, 2) := by decide +kernel
theorem dX1_leastOnward_21 : decode cX1_leastOnward 21 = .ok (.invokevirtual 62, 3) := by decide +kernel
theorem dX1_leastOnward_24 : decode cX1_leastOnward 24 = .ok (.istore 5, 2) := by decide +kernel
theorem dX1_leastOnward_26 : decode cX1_leastOnward 26 = .ok (.aload_n 0, 1) := by decide +kernel
theorem dX1_leastOnward_27 : decode cX1_leastOnward 27 = .ok (.getfield 16, 3) := by decide +kernel
theorem dX1_leastOnward_30 : decode cX1_leastOnward 30 = .ok (.iload_n 1, 1) := by decide +kernel
end
section
set_option maxRecDepth 100000
theorem dX1_leastOnward_31 : decode cX1_leastOnward 31 = .ok (.iconst 1, 1) := by decide +kernel
theorem dX1_leastOnward_32 : decode cX1_leastOnward 32 = .ok (.isub, 1) := by decide +kernel
theorem dX1_leastOnward_33 : decode cX1_leastOnward 33 = .ok (.bipush 11, 2) := by decide +kernel
theorem dX1_leastOnward_35 : decode cX1_leastOnward 35 = .ok (.imul, 1) := by decide +kernel
theorem dX1_leastOnward_36 : decode cX1_leastOnward 36 = .ok (.iload 4, 2) := by decide +kernel
theorem dX1_leastOnward_38 : decode cX1_leastOnward 38 = .ok (.iadd, 1) := by decide +kernel
theorem dX1_leastOnward_39 : decode cX1_leastOnward 39 = .ok (.iaload, 1) := by decide +kernel
theorem dX1_leastOnward_40 : decode cX1_leastOnward 40 = .ok (.istore 6, 2) := by decide +kernel
theorem dX1_leastOnward_42 : decode cX1_leastOnward 42 = .ok (.iload 5, 2) := by decide +kernel
theorem dX1_leastOnward_44 : decode cX1_leastOnward 44 = .ok (.ldc 50, 2) := by decide +kernel
theorem dX1_leastOnward_46 : decode cX1_leastOnward 46 = .ok (.if_icmp .ge 25, 3) := by decide +kernel
theorem dX1_leastOnward_49 : decode cX1_leastOnward 49 = .ok (.iload 6, 2) := by decide +kernel
theorem dX1_leastOnward_51 : decode cX1_leastOnward 51 = .ok (.ldc 50, 2) := by decide +kernel
theorem dX1_leastOnward_53 : decode cX1_leastOnward 53 = .ok (.if_icmp .ge 18, 3) := by decide +kernel
theorem dX1_leastOnward_56 : decode cX1_leastOnward 56 = .ok (.iload 5, 2) := by decide +kernel
theorem dX1_leastOnward_58 : decode cX1_leastOnward 58 = .ok (.iload 6, 2) := by decide +kernel
theorem dX1_leastOnward_60 : decode cX1_leastOnward 60 = .ok (.iadd, 1) := by decide +kernel
theorem dX1_leastOnward_61 : decode cX1_leastOnward 61 = .ok (.iload_n 3, 1) := by decide +kernel
theorem dX1_leastOnward_62 : decode cX1_leastOnward 62 = .ok (.if_icmp .ge 9, 3) := by decide +kernel
theorem dX1_leastOnward_65 : decode cX1_leastOnward 65 = .ok (.iload 5, 2) := by decide +kernel
theorem dX1_leastOnward_67 : decode cX1_leastOnward 67 = .ok (.iload 6, 2) := by decide +kernel
theorem dX1_leastOnward_69 : decode cX1_leastOnward 69 = .ok (.iadd, 1) := by decide +kernel
theorem dX1_leastOnward_70 : decode cX1_leastOnward 70 = .ok (.istore_n 3, 1) := by decide +kernel
theorem dX1_leastOnward_71 : decode cX1_leastOnward 71 = .ok (.iinc 4 1, 3) := by decide +kernel
theorem dX1_leastOnward_74 : decode cX1_leastOnward 74 = .ok (.goto (-66), 3) := by decide +kernel
theorem dX1_leastOnward_77 : decode cX1_leastOnward 77 = .ok (.iload_n 3, 1) := by decide +kernel
theorem dX1_leastOnward_78 : decode cX1_leastOnward 78 = .ok (.ireturn, 1) := by decide +kernel
theorem dX1_lineCost_0 : decode cX1_lineCost 0 = .ok (.aload_n 0, 1) := by decide +kernel
theorem dX1_lineCost_1 : decode cX1_lineCost 1 = .ok (.getfield 29, 3) := by decide +kernel
theorem dX1_lineCost_4 : decode cX1_lineCost 4 = .ok (.aload_n 0, 1) := by decide +kernel
theorem dX1_lineCost_5 : decode cX1_lineCost 5 = .ok (.iload_n 1, 1) := by decide +kernel
theorem dX1_lineCost_6 : decode cX1_lineCost 6 = .ok (.iload_n 2, 1) := by decide +kernel
theorem dX1_lineCost_7 : decode cX1_lineCost 7 = .ok (.invokevirtual 43, 3) := by decide +kernel
theorem dX1_lineCost_10 : decode cX1_lineCost 10 = .ok (.isub, 1) := by decide +kernel
theorem dX1_lineCost_11 : decode cX1_lineCost 11 = .ok (.istore_n 3, 1) := by decide +kernel
theorem dX1_lineCost_12 : decode cX1_lineCost 12 = .ok (.iload_n 3, 1) := by decide +kernel
theorem dX1_lineCost_13 : decode cX1_lineCost 13 = .ok (.iload_n 1, 1) := by decide +kernel
theorem dX1_lineCost_14 : decode cX1_lineCost 14 = .ok (.iconst 1, 1) := by decide +kernel
theorem dX1_lineCost_15 : decode cX1_lineCost 15 = .ok (.iadd, 1) := by decide +kernel
theorem dX1_lineCost_16 : decode cX1_lineCost 16 = .ok (.iload_n 2, 1) := by decide +kernel
theorem dX1_lineCost_17 : decode cX1_lineCost 17 = .ok (.isub, 1) := by decide +kernel
theorem dX1_lineCost_18 : decode cX1_lineCost 18 = .ok (.if_icmp .lt 21, 3) := by decide +kernel
theorem dX1_lineCost_21 : decode cX1_lineCost 21 = .ok (.iload_n 2, 1) := by decide +kernel
theorem dX1_lineCost_22 : decode cX1_lineCost 22 = .ok (.aload_n 0, 1) := by decide +kernel
theorem dX1_lineCost_23 : decode cX1_lineCost 23 = .ok (.getfield 40, 3) := by decide +kernel
theorem dX1_lineCost_26 : decode cX1_lineCost 26 = .ok (.if_icmp .ge 16, 3) := by decide +kernel
theorem dX1_lineCost_29 : decode cX1_lineCost 29 = .ok (.iload_n 2, 1) := by decide +kernel
theorem dX1_lineCost_30 : decode cX1_lineCost 30 = .ok (.iconst 1, 1) := by decide +kernel
theorem dX1_lineCost_31 : decode cX1_lineCost 31 = .ok (.isub, 1) := by decide +kernel
theorem dX1_lineCost_32 : decode cX1_lineCost 32 = .ok (.aload_n 0, 1) := by decide +kernel
theorem dX1_lineCost_33 : decode cX1_lineCost 33 = .ok (.getfield 47, 3) := by decide +kernel
theorem dX1_lineCost_36 : decode cX1_lineCost 36 = .ok (.if_icmp .ne 6, 3) := by decide +kernel
theorem dX1_lineCost_39 : decode cX1_lineCost 39 = .ok (.ldc 50, 2) := by decide +kernel
theorem dX1_lineCost_41 : decode cX1_lineCost 41 = .ok (.ireturn, 1) := by decide +kernel
theorem dX1_lineCost_42 : decode cX1_lineCost 42 = .ok (.iload_n 2, 1) := by decide +kernel
theorem dX1_lineCost_43 : decode cX1_lineCost 43 = .ok (.aload_n 0, 1) := by decide +kernel
theorem dX1_lineCost_44 : decode cX1_lineCost 44 = .ok (.getfield 40, 3) := by decide +kernel
theorem dX1_lineCost_47 : decode cX1_lineCost 47 = .ok (.if_icmp .ne 17, 3) := by decide +kernel
theorem dX1_lineCost_50 : decode cX1_lineCost 50 = .ok (.iload_n 3, 1) := by decide +kernel
theorem dX1_lineCost_51 : decode cX1_lineCost 51 = .ok (.ifCond .lt 7, 3) := by decide +kernel
theorem dX1_lineCost_54 : decode cX1_lineCost 54 = .ok (.iconst 0, 1) := by decide +kernel
theorem dX1_lineCost_55 : decode cX1_lineCost 55 = .ok (.goto 8, 3) := by decide +kernel
theorem dX1_lineCost_58 : decode cX1_lineCost 58 = .ok (.iconst 3, 1) := by decide +kernel
theorem dX1_lineCost_59 : decode cX1_lineCost 59 = .ok (.iload_n 3, 1) := by decide +kernel
theorem dX1_lineCost_60 : decode cX1_lineCost 60 = .ok (.imul, 1) := by decide +kernel
theorem dX1_lineCost_61 : decode cX1_lineCost 61 = .ok (.iload_n 3, 1) := by decide +kernel
theorem dX1_lineCost_62 : decode cX1_lineCost 62 = .ok (.imul, 1) := by decide +kernel
theorem dX1_lineCost_63 : decode cX1_lineCost 63 = .ok (.ireturn, 1) := by decide +kernel
theorem dX1_lineCost_64 : decode cX1_lineCost 64 = .ok (.iload_n 3, 1) := by decide +kernel
theorem dX1_lineCost_65 : decode cX1_lineCost 65 = .ok (.ifCond .lt 9, 3) := by decide +kernel
theorem dX1_lineCost_68 : decode cX1_lineCost 68 = .ok (.iload_n 3, 1) := by decide +kernel
theorem dX1_lineCost_69 : decode cX1_lineCost 69 = .ok (.iload_n 3, 1) := by decide +kernel
theorem dX1_lineCost_70 : decode cX1_lineCost 70 = .ok (.imul, 1) := by decide +kernel
theorem dX1_lineCost_71 : decode cX1_lineCost 71 = .ok (.goto 8, 3) := by decide +kernel
theorem dX1_lineCost_74 : decode cX1_lineCost 74 = .ok (.iconst 3, 1) := by decide +kernel
theorem dX1_lineCost_75 : decode cX1_lineCost 75 = .ok (.iload_n 3, 1) := by decide +kernel
theorem dX1_lineCost_76 : decode cX1_lineCost 76 = .ok (.imul, 1) := by decide +kernel
theorem dX1_lineCost_77 : decode cX1_lineCost 77 = .ok (.iload_n 3, 1) := by decide +kernel
theorem dX1_lineCost_78 : decode cX1_lineCost 78 = .ok (.imul, 1) := by decide +kernel
theorem dX1_lineCost_79 : decode cX1_lineCost 79 = .ok (.istore 4, 2) := by decide +kernel
theorem dX1_lineCost_81 : decode cX1_lineCost 81 = .ok (.aload_n 0, 1) := by decide +kernel
theorem dX1_lineCost_82 : decode cX1_lineCost 82 = .ok (.iload_n 1, 1) := by decide +kernel
theorem dX1_lineCost_83 : decode cX1_lineCost 83 = .ok (.invokevirtual 51, 3) := by decide +kernel
theorem dX1_lineCost_86 : decode cX1_lineCost 86 = .ok (.ifCond .eq 18, 3) := by decide +kernel
theorem dX1_lineCost_89 : decode cX1_lineCost 89 = .ok (.aload_n 0, 1) := by decide +kernel
theorem dX1_lineCost_90 : decode cX1_lineCost 90 = .ok (.iload_n 2, 1) := by decide +kernel
theorem dX1_lineCost_91 : decode cX1_lineCost 91 = .ok (.invokevirtual 51, 3) := by decide +kernel
theorem dX1_lineCost_94 : decode cX1_lineCost 94 = .ok (.ifCond .eq 10, 3) := by decide +kernel
theorem dX1_lineCost_97 : decode cX1_lineCost 97 = .ok (.aload_n 0, 1) := by decide +kernel
theorem dX1_lineCost_98 : decode cX1_lineCost 98 = .ok (.getfield 33, 3) := by decide +kernel
theorem dX1_lineCost_101 : decode cX1_lineCost 101 = .ok (.goto 4, 3) := by decide +kernel
theorem dX1_lineCost_104 : decode cX1_lineCost 104 = .ok (.iconst 0, 1) := by decide +kernel
theorem dX1_lineCost_105 : decode cX1_lineCost 105 = .ok (.istore 5, 2) := by decide +kernel
theorem dX1_lineCost_107 : decode cX1_lineCost 107 = .ok (.iload 4, 2) := by decide +kernel
theorem dX1_lineCost_109 : decode cX1_lineCost 109 = .ok (.aload_n 0, 1) := by decide +kernel
theorem dX1_lineCost_110 : decode cX1_lineCost 110 = .ok (.getfield 13, 3) := by decide +kernel
theorem dX1_lineCost_113 : decode cX1_lineCost 113 = .ok (.iload_n 2, 1) := by decide +kernel
theorem dX1_lineCost_114 : decode cX1_lineCost 114 = .ok (.iconst 1, 1) := by decide +kernel
theorem dX1_lineCost_115 : decode cX1_lineCost 115 = .ok (.isub, 1) := by decide +kernel
theorem dX1_lineCost_116 : decode cX1_lineCost 116 = .ok (.baload, 1) := by decide +kernel
theorem dX1_lineCost_117 : decode cX1_lineCost 117 = .ok (.iadd, 1) := by decide +kernel
theorem dX1_lineCost_118 : decode cX1_lineCost 118 = .ok (.iload 5, 2) := by decide +kernel
theorem dX1_lineCost_120 : decode cX1_lineCost 120 = .ok (.iadd, 1) := by decide +kernel
theorem dX1_lineCost_121 : decode cX1_lineCost 121 = .ok (.ireturn, 1) := by decide +kernel
theorem dX1_length_0 : decode cX1_length 0 = .ok (.iload_n 2, 1) := by decide +kernel
theorem dX1_length_1 : decode cX1_length 1 = .ok (.iload_n 1, 1) := by decide +kernel
theorem dX1_length_2 : decode cX1_length 2 = .ok (.isub, 1) := by decide +kernel
theorem dX1_length_3 : decode cX1_length 3 = .ok (.iconst 1, 1) := by decide +kernel
theorem dX1_length_4 : decode cX1_length 4 = .ok (.isub, 1) := by decide +kernel
theorem dX1_length_5 : decode cX1_length 5 = .ok (.iconst 2, 1) := by decide +kernel
theorem dX1_length_6 : decode cX1_length 6 = .ok (.imul, 1) := by decide +kernel
theorem dX1_length_7 : decode cX1_length 7 = .ok (.istore_n 3, 1) := by decide +kernel
theorem dX1_length_8 : decode cX1_length 8 = .ok (.iload_n 1, 1) := by decide +kernel
theorem dX1_length_9 : decode cX1_length 9 = .ok (.istore 4, 2) := by decide +kernel
theorem dX1_length_11 : decode cX1_length 11 = .ok (.iload 4, 2) := by decide +kernel
theorem dX1_length_13 : decode cX1_length 13 = .ok (.iload_n 2, 1) := by decide +kernel
theorem dX1_length_14 : decode cX1_length 14 = .ok (.if_icmp .ge 19, 3) := by decide +kernel
theorem dX1_length_17 : decode cX1_length 17 = .ok (.iload_n 3, 1) := by decide +kernel
theorem dX1_length_18 : decode cX1_length 18 = .ok (.aload_n 0, 1) := by decide +kernel
theorem dX1_length_19 : decode cX1_length 19 = .ok (.getfield 7, 3) := by decide +kernel
theorem dX1_length_22 : decode cX1_length 22 = .ok (.iload 4, 2) := by decide +kernel
theorem dX1_length_24 : decode cX1_length 24 = .ok (.baload, 1) := by decide +kernel
theorem dX1_length_25 : decode cX1_length 25 = .ok (.iadd, 1) := by decide +kernel
theorem dX1_length_26 : decode cX1_length 26 = .ok (.istore_n 3, 1) := by decide +kernel
theorem dX1_length_27 : decode cX1_length 27 = .ok (.iinc 4 1, 3) := by decide +kernel
theorem dX1_length_30 : decode cX1_length 30 = .ok (.goto (-19), 3) := by decide +kernel
theorem dX1_length_33 : decode cX1_length 33 = .ok (.iload_n 3, 1) := by decide +kernel
theorem dX1_length_34 : decode cX1_length 34 = .ok (.ireturn, 1) := by decide +kernel
theorem dX1_penalised_0 : decode cX1_penalised 0 = .ok (.iload_n 1, 1) := by decide +kernel
theorem dX1_penalised_1 : decode cX1_penalised 1 = .ok (.ifCond .le 18, 3) := by decide +kernel
theorem dX1_penalised_4 : decode cX1_penalised 4 = .ok (.aload_n 0, 1) := by decide +kernel
theorem dX1_penalised_5 : decode cX1_penalised 5 = .ok (.getfield 13, 3) := by decide +kernel
theorem dX1_penalised_8 : decode cX1_penalised 8 = .ok (.iload_n 1, 1) := by decide +kernel
theorem dX1_penalised_9 : decode cX1_penalised 9 = .ok (.iconst 1, 1) := by decide +kernel
theorem dX1_penalised_10 : decode cX1_penalised 10 = .ok (.isub, 1) := by decide +kernel
theorem dX1_penalised_11 : decode cX1_penalised 11 = .ok (.baload, 1) := by decide +kernel
theorem dX1_penalised_12 : decode cX1_penalised 12 = .ok (.ifCond .le 7, 3) := by decide +kernel
theorem dX1_penalised_15 : decode cX1_penalised 15 = .ok (.iconst 1, 1) := by decide +kernel
theorem dX1_penalised_16 : decode cX1_penalised 16 = .ok (.goto 4, 3) := by decide +kernel
theorem dX1_penalised_19 : decode cX1_penalised 19 = .ok (.iconst 0, 1) := by decide +kernel
theorem dX1_penalised_20 : decode cX1_penalised 20 = .ok (.ireturn, 1) := by decide +kernel
theorem dX1_findBest_0 : decode cX1_findBest 0 = .ok (.iload_n 1, 1) := by decide +kernel
theorem dX1_findBest_1 : decode cX1_findBest 1 = .ok (.iconst 1, 1) := by decide +kernel
theorem dX1_findBest_2 : decode cX1_findBest 2 = .ok (.iadd, 1) := by decide +kernel
theorem dX1_findBest_3 : decode cX1_findBest 3 = .ok (.istore_n 2, 1) := by decide +kernel
theorem dX1_findBest_4 : decode cX1_findBest 4 = .ok (.iload_n 2, 1) := by decide +kernel
theorem dX1_findBest_5 : decode cX1_findBest 5 = .ok (.aload_n 0, 1) := by decide +kernel
theorem dX1_findBest_6 : decode cX1_findBest 6 = .ok (.getfield 40, 3) := by decide +kernel
theorem dX1_findBest_9 : decode cX1_findBest 9 = .ok (.if_icmp .gt 99, 3) := by decide +kernel
theorem dX1_findBest_12 : decode cX1_findBest 12 = .ok (.aload_n 0, 1) := by decide +kernel
theorem dX1_findBest_13 : decode cX1_findBest 13 = .ok (.iload_n 1, 1) := by decide +kernel
theorem dX1_findBest_14 : decode cX1_findBest 14 = .ok (.iload_n 2, 1) := by decide +kernel
theorem dX1_findBest_15 : decode cX1_findBest 15 = .ok (.invokevirtual 62, 3) := by decide +kernel
theorem dX1_findBest_18 : decode cX1_findBest 18 = .ok (.istore_n 3, 1) := by decide +kernel
theorem dX1_findBest_19 : decode cX1_findBest 19 = .ok (.iload_n 3, 1) := by decide +kernel
theorem dX1_findBest_20 : decode cX1_findBest 20 = .ok (.ldc 50, 2) := by decide +kernel
theorem dX1_findBest_22 : decode cX1_findBest 22 = .ok (.if_icmp .ge 80, 3) := by decide +kernel
theorem dX1_findBest_25 : decode cX1_findBest 25 = .ok (.aload_n 0, 1) := by decide +kernel
theorem dX1_findBest_26 : decode cX1_findBest 26 = .ok (.getfield 23, 3) := by decide +kernel
theorem dX1_findBest_29 : decode cX1_findBest 29 = .ok (.iload_n 2, 1) := by decide +kernel
theorem dX1_findBest_30 : decode cX1_findBest 30 = .ok (.iaload, 1) := by decide +kernel
theorem dX1_findBest_31 : decode cX1_findBest 31 = .ok (.ldc 50, 2) := by decide +kernel
theorem dX1_findBest_33 : decode cX1_findBest 33 = .ok (.if_icmp .ge 69, 3) := by decide +kernel
theorem dX1_findBest_36 : decode cX1_findBest 36 = .ok (.iload_n 3, 1) := by decide +kernel
theorem dX1_findBest_37 : decode cX1_findBest 37 = .ok (.aload_n 0, 1) := by decide +kernel
theorem dX1_findBest_38 : decode cX1_findBest 38 = .ok (.getfield 23, 3) := by decide +kernel
theorem dX1_findBest_41 : decode cX1_findBest 41 = .ok (.iload_n 2, 1) := by decide +kernel
theorem dX1_findBest_42 : decode cX1_findBest 42 = .ok (.iaload, 1) := by decide +kernel
theorem dX1_findBest_43 : decode cX1_findBest 43 = .ok (.iadd, 1) := by decide +kernel
theorem dX1_findBest_44 : decode cX1_findBest 44 = .ok (.istore 4, 2) := by decide +kernel
theorem dX1_findBest_46 : decode cX1_findBest 46 = .ok (.iload 4, 2) := by decide +kernel
theorem dX1_findBest_48 : decode cX1_findBest 48 = .ok (.aload_n 0, 1) := by decide +kernel
theorem dX1_findBest_49 : decode cX1_findBest 49 = .ok (.getfield 23, 3) := by decide +kernel
theorem dX1_findBest_52 : decode cX1_findBest 52 = .ok (.iload_n 1, 1) := by decide +kernel
theorem dX1_findBest_53 : decode cX1_findBest 53 = .ok (.iaload, 1) := by decide +kernel
theorem dX1_findBest_54 : decode cX1_findBest 54 = .ok (.if_icmp .ge 18, 3) := by decide +kernel
theorem dX1_findBest_57 : decode cX1_findBest 57 = .ok (.aload_n 0, 1) := by decide +kernel
theorem dX1_findBest_58 : decode cX1_findBest 58 = .ok (.getfield 23, 3) := by decide +kernel
theorem dX1_findBest_61 : decode cX1_findBest 61 = .ok (.iload_n 1, 1) := by decide +kernel
theorem dX1_findBest_62 : decode cX1_findBest 62 = .ok (.iload 4, 2) := by decide +kernel
theorem dX1_findBest_64 : decode cX1_findBest 64 = .ok (.iastore, 1) := by decide +kernel
theorem dX1_findBest_65 : decode cX1_findBest 65 = .ok (.aload_n 0, 1) := by decide +kernel
theorem dX1_findBest_66 : decode cX1_findBest 66 = .ok (.getfield 26, 3) := by decide +kernel
theorem dX1_findBest_69 : decode cX1_findBest 69 = .ok (.iload_n 1, 1) := by decide +kernel
theorem dX1_findBest_70 : decode cX1_findBest 70 = .ok (.iconst 0, 1) := by decide +kernel
theorem dX1_findBest_71 : decode cX1_findBest 71 = .ok (.iastore, 1) := by decide +kernel
theorem dX1_findBest_72 : decode cX1_findBest 72 = .ok (.aload_n 0, 1) := by decide +kernel
theorem dX1_findBest_73 : decode cX1_findBest 73 = .ok (.getfield 26, 3) := by decide +kernel
theorem dX1_findBest_76 : decode cX1_findBest 76 = .ok (.iload_n 1, 1) := by decide +kernel
theorem dX1_findBest_77 : decode cX1_findBest 77 = .ok (.dup2, 1) := by decide +kernel
theorem dX1_findBest_78 : decode cX1_findBest 78 = .ok (.iaload, 1) := by decide +kernel
theorem dX1_findBest_79 : decode cX1_findBest 79 = .ok (.iload 4, 2) := by decide +kernel
theorem dX1_findBest_81 : decode cX1_findBest 81 = .ok (.aload_n 0, 1) := by decide +kernel
theorem dX1_findBest_82 : decode cX1_findBest 82 = .ok (.getfield 23, 3) := by decide +kernel
theorem dX1_findBest_85 : decode cX1_findBest 85 = .ok (.iload_n 1, 1) := by decide +kernel
theorem dX1_findBest_86 : decode cX1_findBest 86 = .ok (.iaload, 1) := by decide +kernel
theorem dX1_findBest_87 : decode cX1_findBest 87 = .ok (.if_icmp .ne 12, 3) := by decide +kernel
theorem dX1_findBest_90 : decode cX1_findBest 90 = .ok (.aload_n 0, 1) := by decide +kernel
theorem dX1_findBest_91 : decode cX1_findBest 91 = .ok (.getfield 26, 3) := by decide +kernel
theorem dX1_findBest_94 : decode cX1_findBest 94 = .ok (.iload_n 2, 1) := by decide +kernel
theorem dX1_findBest_95 : decode cX1_findBest 95 = .ok (.iaload, 1) := by decide +kernel
theorem dX1_findBest_96 : decode cX1_findBest 96 = .ok (.goto 4, 3) := by decide +kernel
theorem dX1_findBest_99 : decode cX1_findBest 99 = .ok (.iconst 0, 1) := by decide +kernel
theorem dX1_findBest_100 : decode cX1_findBest 100 = .ok (.iadd, 1) := by decide +kernel
theorem dX1_findBest_101 : decode cX1_findBest 101 = .ok (.iastore, 1) := by decide +kernel
theorem dX1_findBest_102 : decode cX1_findBest 102 = .ok (.iinc 2 1, 3) := by decide +kernel
theorem dX1_findBest_105 : decode cX1_findBest 105 = .ok (.goto (-101), 3) := by decide +kernel
theorem dX1_findBest_108 : decode cX1_findBest 108 = .ok (.return_, 1) := by decide +kernel
theorem dX1_lines_0 : decode cX1_lines 0 = .ok (.aload_n 0, 1) := by decide +kernel
theorem dX1_lines_1 : decode cX1_lines 1 = .ok (.invokevirtual 68, 3) := by decide +kernel
theorem dX1_lines_4 : decode cX1_lines 4 = .ok (.aload_n 0, 1) := by decide +kernel
theorem dX1_lines_5 : decode cX1_lines 5 = .ok (.invokevirtual 71, 3) := by decide +kernel
theorem dX1_lines_8 : decode cX1_lines 8 = .ok (.istore_n 1, 1) := by decide +kernel
theorem dX1_lines_9 : decode cX1_lines 9 = .ok (.iload_n 1, 1) := by decide +kernel
theorem dX1_lines_10 : decode cX1_lines 10 = .ok (.ifCond .ge 7, 3) := by decide +kernel
theorem dX1_lines_13 : decode cX1_lines 13 = .ok (.iconst 0, 1) := by decide +kernel
theorem dX1_lines_14 : decode cX1_lines 14 = .ok (.goto 4, 3) := by decide +kernel
theorem dX1_lines_17 : decode cX1_lines 17 = .ok (.iload_n 1, 1) := by decide +kernel
theorem dX1_lines_18 : decode cX1_lines 18 = .ok (.ireturn, 1) := by decide +kernel
theorem dX1_fewestLines_0 : decode cX1_fewestLines 0 = .ok (.iconst 0, 1) := by decide +kernel
theorem dX1_fewestLines_1 : decode cX1_fewestLines 1 = .ok (.istore_n 1, 1) := by decide +kernel
theorem dX1_fewestLines_2 : decode cX1_fewestLines 2 = .ok (.iload_n 1, 1) := by decide +kernel
theorem dX1_fewestLines_3 : decode cX1_fewestLines 3 = .ok (.bipush 10, 2) := by decide +kernel
theorem dX1_fewestLines_5 : decode cX1_fewestLines 5 = .ok (.if_icmp .gt 43, 3) := by decide +kernel
theorem dX1_fewestLines_8 : decode cX1_fewestLines 8 = .ok (.aload_n 0, 1) := by decide +kernel
theorem dX1_fewestLines_9 : decode cX1_fewestLines 9 = .ok (.getfield 16, 3) := by decide +kernel
theorem dX1_fewestLines_12 : decode cX1_fewestLines 12 = .ok (.iload_n 1, 1) := by decide +kernel
theorem dX1_fewestLines_13 : decode cX1_fewestLines 13 = .ok (.bipush 11, 2) := by decide +kernel
theorem dX1_fewestLines_15 : decode cX1_fewestLines 15 = .ok (.imul, 1) := by decide +kernel
theorem dX1_fewestLines_16 : decode cX1_fewestLines 16 = .ok (.iaload, 1) := by decide +kernel
theorem dX1_fewestLines_17 : decode cX1_fewestLines 17 = .ok (.ldc 50, 2) := by decide +kernel
theorem dX1_fewestLines_19 : decode cX1_fewestLines 19 = .ok (.if_icmp .ge 23, 3) := by decide +kernel
theorem dX1_fewestLines_22 : decode cX1_fewestLines 22 = .ok (.aload_n 0, 1) := by decide +kernel
theorem dX1_fewestLines_23 : decode cX1_fewestLines 23 = .ok (.getfield 16, 3) := by decide +kernel
theorem dX1_fewestLines_26 : decode cX1_fewestLines 26 = .ok (.iload_n 1, 1) := by decide +kernel
theorem dX1_fewestLines_27 : decode cX1_fewestLines 27 = .ok (.bipush 11, 2) := by decide +kernel
theorem dX1_fewestLines_29 : decode cX1_fewestLines 29 = .ok (.imul, 1) := by decide +kernel
theorem dX1_fewestLines_30 : decode cX1_fewestLines 30 = .ok (.iaload, 1) := by decide +kernel
theorem dX1_fewestLines_31 : decode cX1_fewestLines 31 = .ok (.aload_n 0, 1) := by decide +kernel
theorem dX1_fewestLines_32 : decode cX1_fewestLines 32 = .ok (.getfield 23, 3) := by decide +kernel
theorem dX1_fewestLines_35 : decode cX1_fewestLines 35 = .ok (.iconst 0, 1) := by decide +kernel
theorem dX1_fewestLines_36 : decode cX1_fewestLines 36 = .ok (.iaload, 1) := by decide +kernel
theorem dX1_fewestLines_37 : decode cX1_fewestLines 37 = .ok (.if_icmp .ne 5, 3) := by decide +kernel
theorem dX1_fewestLines_40 : decode cX1_fewestLines 40 = .ok (.iload_n 1, 1) := by decide +kernel
theorem dX1_fewestLines_41 : decode cX1_fewestLines 41 = .ok (.ireturn, 1) := by decide +kernel
theorem dX1_fewestLines_42 : decode cX1_fewestLines 42 = .ok (.iinc 1 1, 3) := by decide +kernel
theorem dX1_fewestLines_45 : decode cX1_fewestLines 45 = .ok (.goto (-43), 3) := by decide +kernel
theorem dX1_fewestLines_48 : decode cX1_fewestLines 48 = .ok (.iconst (-1), 1) := by decide +kernel
theorem dX1_fewestLines_49 : decode cX1_fewestLines 49 = .ok (.ireturn, 1) := by decide +kernel
theorem dX1_lineOf_0 : decode cX1_lineOf 0 = .ok (.iload_n 1, 1) := by decide +kernel
theorem dX1_lineOf_1 : decode cX1_lineOf 1 = .ok (.ifCond .lt 11, 3) := by decide +kernel
theorem dX1_lineOf_4 : decode cX1_lineOf 4 = .ok (.iload_n 1, 1) := by decide +kernel
theorem dX1_lineOf_5 : decode cX1_lineOf 5 = .ok (.aload_n 0, 1) := by decide +kernel
theorem dX1_lineOf_6 : decode cX1_lineOf 6 = .ok (.getfield 40, 3) := by decide +kernel
theorem dX1_lineOf_9 : decode cX1_lineOf 9 = .ok (.if_icmp .lt 5, 3) := by decide +kernel
theorem dX1_lineOf_12 : decode cX1_lineOf 12 = .ok (.iconst (-1), 1) := by decide +kernel
theorem dX1_lineOf_13 : decode cX1_lineOf 13 = .ok (.ireturn, 1) := by decide +kernel
theorem dX1_lineOf_14 : decode cX1_lineOf 14 = .ok (.aload_n 0, 1) := by decide +kernel
theorem dX1_lineOf_15 : decode cX1_lineOf 15 = .ok (.invokevirtual 79, 3) := by decide +kernel
theorem dX1_lineOf_18 : decode cX1_lineOf 18 = .ok (.istore_n 2, 1) := by decide +kernel
theorem dX1_lineOf_19 : decode cX1_lineOf 19 = .ok (.iconst 0, 1) := by decide +kernel
theorem dX1_lineOf_20 : decode cX1_lineOf 20 = .ok (.istore_n 3, 1) := by decide +kernel
theorem dX1_lineOf_21 : decode cX1_lineOf 21 = .ok (.iload_n 3, 1) := by decide +kernel
theorem dX1_lineOf_22 : decode cX1_lineOf 22 = .ok (.iload_n 2, 1) := by decide +kernel
theorem dX1_lineOf_23 : decode cX1_lineOf 23 = .ok (.if_icmp .ge 24, 3) := by decide +kernel
theorem dX1_lineOf_26 : decode cX1_lineOf 26 = .ok (.aload_n 0, 1) := by decide +kernel
theorem dX1_lineOf_27 : decode cX1_lineOf 27 = .ok (.iload_n 3, 1) := by decide +kernel
theorem dX1_lineOf_28 : decode cX1_lineOf 28 = .ok (.invokevirtual 82, 3) := by decide +kernel
theorem dX1_lineOf_31 : decode cX1_lineOf 31 = .ok (.istore 4, 2) := by decide +kernel
theorem dX1_lineOf_33 : decode cX1_lineOf 33 = .ok (.iload_n 1, 1) := by decide +kernel
theorem dX1_lineOf_34 : decode cX1_lineOf 34 = .ok (.iload 4, 2) := by decide +kernel
theorem dX1_lineOf_36 : decode cX1_lineOf 36 = .ok (.if_icmp .ge 5, 3) := by decide +kernel
theorem dX1_lineOf_39 : decode cX1_lineOf 39 = .ok (.iload_n 3, 1) := by decide +kernel
theorem dX1_lineOf_40 : decode cX1_lineOf 40 = .ok (.ireturn, 1) := by decide +kernel
theorem dX1_lineOf_41 : decode cX1_lineOf 41 = .ok (.iinc 3 1, 3) := by decide +kernel
theorem dX1_lineOf_44 : decode cX1_lineOf 44 = .ok (.goto (-23), 3) := by decide +kernel
theorem dX1_lineOf_47 : decode cX1_lineOf 47 = .ok (.iconst (-1), 1) := by decide +kernel
theorem dX1_lineOf_48 : decode cX1_lineOf 48 = .ok (.ireturn, 1) := by decide +kernel
theorem dX1_endOfLine_0 : decode cX1_endOfLine 0 = .ok (.aload_n 0, 1) := by decide +kernel
end
section
set_option maxRecDepth 100000
theorem dX1_endOfLine_1 : decode cX1_endOfLine 1 = .ok (.invokevirtual 68, 3) := by decide +kernel
theorem dX1_endOfLine_4 : decode cX1_endOfLine 4 = .ok (.aload_n 0, 1) := by decide +kernel
theorem dX1_endOfLine_5 : decode cX1_endOfLine 5 = .ok (.invokevirtual 71, 3) := by decide +kernel
theorem dX1_endOfLine_8 : decode cX1_endOfLine 8 = .ok (.istore_n 2, 1) := by decide +kernel
theorem dX1_endOfLine_9 : decode cX1_endOfLine 9 = .ok (.iload_n 1, 1) := by decide +kernel
theorem dX1_endOfLine_10 : decode cX1_endOfLine 10 = .ok (.ifCond .lt 8, 3) := by decide +kernel
theorem dX1_endOfLine_13 : decode cX1_endOfLine 13 = .ok (.iload_n 1, 1) := by decide +kernel
theorem dX1_endOfLine_14 : decode cX1_endOfLine 14 = .ok (.iload_n 2, 1) := by decide +kernel
theorem dX1_endOfLine_15 : decode cX1_endOfLine 15 = .ok (.if_icmp .lt 5, 3) := by decide +kernel
theorem dX1_endOfLine_18 : decode cX1_endOfLine 18 = .ok (.iconst (-1), 1) := by decide +kernel
theorem dX1_endOfLine_19 : decode cX1_endOfLine 19 = .ok (.ireturn, 1) := by decide +kernel
theorem dX1_endOfLine_20 : decode cX1_endOfLine 20 = .ok (.iconst 0, 1) := by decide +kernel
theorem dX1_endOfLine_21 : decode cX1_endOfLine 21 = .ok (.istore_n 3, 1) := by decide +kernel
theorem dX1_endOfLine_22 : decode cX1_endOfLine 22 = .ok (.iconst 0, 1) := by decide +kernel
theorem dX1_endOfLine_23 : decode cX1_endOfLine 23 = .ok (.istore 4, 2) := by decide +kernel
theorem dX1_endOfLine_25 : decode cX1_endOfLine 25 = .ok (.iload 4, 2) := by decide +kernel
theorem dX1_endOfLine_27 : decode cX1_endOfLine 27 = .ok (.iload_n 1, 1) := by decide +kernel
theorem dX1_endOfLine_28 : decode cX1_endOfLine 28 = .ok (.if_icmp .gt 19, 3) := by decide +kernel
theorem dX1_endOfLine_31 : decode cX1_endOfLine 31 = .ok (.aload_n 0, 1) := by decide +kernel
theorem dX1_endOfLine_32 : decode cX1_endOfLine 32 = .ok (.iload_n 2, 1) := by decide +kernel
theorem dX1_endOfLine_33 : decode cX1_endOfLine 33 = .ok (.iload 4, 2) := by decide +kernel
theorem dX1_endOfLine_35 : decode cX1_endOfLine 35 = .ok (.isub, 1) := by decide +kernel
theorem dX1_endOfLine_36 : decode cX1_endOfLine 36 = .ok (.iload_n 3, 1) := by decide +kernel
theorem dX1_endOfLine_37 : decode cX1_endOfLine 37 = .ok (.invokevirtual 75, 3) := by decide +kernel
theorem dX1_endOfLine_40 : decode cX1_endOfLine 40 = .ok (.istore_n 3, 1) := by decide +kernel
theorem dX1_endOfLine_41 : decode cX1_endOfLine 41 = .ok (.iinc 4 1, 3) := by decide +kernel
theorem dX1_endOfLine_44 : decode cX1_endOfLine 44 = .ok (.goto (-19), 3) := by decide +kernel
theorem dX1_endOfLine_47 : decode cX1_endOfLine 47 = .ok (.iload_n 3, 1) := by decide +kernel
theorem dX1_endOfLine_48 : decode cX1_endOfLine 48 = .ok (.ireturn, 1) := by decide +kernel
theorem dX1_firstEnd_0 : decode cX1_firstEnd 0 = .ok (.aload_n 0, 1) := by decide +kernel
theorem dX1_firstEnd_1 : decode cX1_firstEnd 1 = .ok (.getfield 16, 3) := by decide +kernel
theorem dX1_firstEnd_4 : decode cX1_firstEnd 4 = .ok (.iload_n 1, 1) := by decide +kernel
theorem dX1_firstEnd_5 : decode cX1_firstEnd 5 = .ok (.bipush 11, 2) := by decide +kernel
theorem dX1_firstEnd_7 : decode cX1_firstEnd 7 = .ok (.imul, 1) := by decide +kernel
theorem dX1_firstEnd_8 : decode cX1_firstEnd 8 = .ok (.iload_n 2, 1) := by decide +kernel
theorem dX1_firstEnd_9 : decode cX1_firstEnd 9 = .ok (.iadd, 1) := by decide +kernel
theorem dX1_firstEnd_10 : decode cX1_firstEnd 10 = .ok (.iaload, 1) := by decide +kernel
theorem dX1_firstEnd_11 : decode cX1_firstEnd 11 = .ok (.istore_n 3, 1) := by decide +kernel
theorem dX1_firstEnd_12 : decode cX1_firstEnd 12 = .ok (.iload_n 2, 1) := by decide +kernel
theorem dX1_firstEnd_13 : decode cX1_firstEnd 13 = .ok (.iconst 1, 1) := by decide +kernel
theorem dX1_firstEnd_14 : decode cX1_firstEnd 14 = .ok (.iadd, 1) := by decide +kernel
theorem dX1_firstEnd_15 : decode cX1_firstEnd 15 = .ok (.istore 4, 2) := by decide +kernel
theorem dX1_firstEnd_17 : decode cX1_firstEnd 17 = .ok (.iload 4, 2) := by decide +kernel
theorem dX1_firstEnd_19 : decode cX1_firstEnd 19 = .ok (.aload_n 0, 1) := by decide +kernel
theorem dX1_firstEnd_20 : decode cX1_firstEnd 20 = .ok (.getfield 40, 3) := by decide +kernel
theorem dX1_firstEnd_23 : decode cX1_firstEnd 23 = .ok (.if_icmp .gt 60, 3) := by decide +kernel
theorem dX1_firstEnd_26 : decode cX1_firstEnd 26 = .ok (.aload_n 0, 1) := by decide +kernel
theorem dX1_firstEnd_27 : decode cX1_firstEnd 27 = .ok (.iload_n 2, 1) := by decide +kernel
theorem dX1_firstEnd_28 : decode cX1_firstEnd 28 = .ok (.iload 4, 2) := by decide +kernel
theorem dX1_firstEnd_30 : decode cX1_firstEnd 30 = .ok (.invokevirtual 62, 3) := by decide +kernel
theorem dX1_firstEnd_33 : decode cX1_firstEnd 33 = .ok (.istore 5, 2) := by decide +kernel
theorem dX1_firstEnd_35 : decode cX1_firstEnd 35 = .ok (.aload_n 0, 1) := by decide +kernel
theorem dX1_firstEnd_36 : decode cX1_firstEnd 36 = .ok (.getfield 16, 3) := by decide +kernel
theorem dX1_firstEnd_39 : decode cX1_firstEnd 39 = .ok (.iload_n 1, 1) := by decide +kernel
theorem dX1_firstEnd_40 : decode cX1_firstEnd 40 = .ok (.iconst 1, 1) := by decide +kernel
theorem dX1_firstEnd_41 : decode cX1_firstEnd 41 = .ok (.isub, 1) := by decide +kernel
theorem dX1_firstEnd_42 : decode cX1_firstEnd 42 = .ok (.bipush 11, 2) := by decide +kernel
theorem dX1_firstEnd_44 : decode cX1_firstEnd 44 = .ok (.imul, 1) := by decide +kernel
theorem dX1_firstEnd_45 : decode cX1_firstEnd 45 = .ok (.iload 4, 2) := by decide +kernel
theorem dX1_firstEnd_47 : decode cX1_firstEnd 47 = .ok (.iadd, 1) := by decide +kernel
theorem dX1_firstEnd_48 : decode cX1_firstEnd 48 = .ok (.iaload, 1) := by decide +kernel
theorem dX1_firstEnd_49 : decode cX1_firstEnd 49 = .ok (.istore 6, 2) := by decide +kernel
theorem dX1_firstEnd_51 : decode cX1_firstEnd 51 = .ok (.iload 5, 2) := by decide +kernel
theorem dX1_firstEnd_53 : decode cX1_firstEnd 53 = .ok (.ldc 50, 2) := by decide +kernel
theorem dX1_firstEnd_55 : decode cX1_firstEnd 55 = .ok (.if_icmp .ge 22, 3) := by decide +kernel
theorem dX1_firstEnd_58 : decode cX1_firstEnd 58 = .ok (.iload 6, 2) := by decide +kernel
theorem dX1_firstEnd_60 : decode cX1_firstEnd 60 = .ok (.ldc 50, 2) := by decide +kernel
theorem dX1_firstEnd_62 : decode cX1_firstEnd 62 = .ok (.if_icmp .ge 15, 3) := by decide +kernel
theorem dX1_firstEnd_65 : decode cX1_firstEnd 65 = .ok (.iload 5, 2) := by decide +kernel
theorem dX1_firstEnd_67 : decode cX1_firstEnd 67 = .ok (.iload 6, 2) := by decide +kernel
theorem dX1_firstEnd_69 : decode cX1_firstEnd 69 = .ok (.iadd, 1) := by decide +kernel
theorem dX1_firstEnd_70 : decode cX1_firstEnd 70 = .ok (.iload_n 3, 1) := by decide +kernel
theorem dX1_firstEnd_71 : decode cX1_firstEnd 71 = .ok (.if_icmp .ne 6, 3) := by decide +kernel
theorem dX1_firstEnd_74 : decode cX1_firstEnd 74 = .ok (.iload 4, 2) := by decide +kernel
theorem dX1_firstEnd_76 : decode cX1_firstEnd 76 = .ok (.ireturn, 1) := by decide +kernel
theorem dX1_firstEnd_77 : decode cX1_firstEnd 77 = .ok (.iinc 4 1, 3) := by decide +kernel
theorem dX1_firstEnd_80 : decode cX1_firstEnd 80 = .ok (.goto (-63), 3) := by decide +kernel
theorem dX1_firstEnd_83 : decode cX1_firstEnd 83 = .ok (.aload_n 0, 1) := by decide +kernel
theorem dX1_firstEnd_84 : decode cX1_firstEnd 84 = .ok (.getfield 40, 3) := by decide +kernel
theorem dX1_firstEnd_87 : decode cX1_firstEnd 87 = .ok (.ireturn, 1) := by decide +kernel
theorem dX1_endOf_0 : decode cX1_endOf 0 = .ok (.aload_n 0, 1) := by decide +kernel
theorem dX1_endOf_1 : decode cX1_endOf 1 = .ok (.iload_n 1, 1) := by decide +kernel
theorem dX1_endOf_2 : decode cX1_endOf 2 = .ok (.invokevirtual 82, 3) := by decide +kernel
theorem dX1_endOf_5 : decode cX1_endOf 5 = .ok (.istore_n 2, 1) := by decide +kernel
theorem dX1_endOf_6 : decode cX1_endOf 6 = .ok (.iload_n 2, 1) := by decide +kernel
theorem dX1_endOf_7 : decode cX1_endOf 7 = .ok (.ifCond .ge 7, 3) := by decide +kernel
theorem dX1_endOf_10 : decode cX1_endOf 10 = .ok (.iconst (-1), 1) := by decide +kernel
theorem dX1_endOf_11 : decode cX1_endOf 11 = .ok (.goto 6, 3) := by decide +kernel
theorem dX1_endOf_14 : decode cX1_endOf 14 = .ok (.iload_n 2, 1) := by decide +kernel
theorem dX1_endOf_15 : decode cX1_endOf 15 = .ok (.iconst 1, 1) := by decide +kernel
theorem dX1_endOf_16 : decode cX1_endOf 16 = .ok (.isub, 1) := by decide +kernel
theorem dX1_endOf_17 : decode cX1_endOf 17 = .ok (.ireturn, 1) := by decide +kernel
theorem dX1_lengthOf_0 : decode cX1_lengthOf 0 = .ok (.aload_n 0, 1) := by decide +kernel
theorem dX1_lengthOf_1 : decode cX1_lengthOf 1 = .ok (.iload_n 1, 1) := by decide +kernel
theorem dX1_lengthOf_2 : decode cX1_lengthOf 2 = .ok (.invokevirtual 82, 3) := by decide +kernel
theorem dX1_lengthOf_5 : decode cX1_lengthOf 5 = .ok (.istore_n 2, 1) := by decide +kernel
theorem dX1_lengthOf_6 : decode cX1_lengthOf 6 = .ok (.iload_n 2, 1) := by decide +kernel
theorem dX1_lengthOf_7 : decode cX1_lengthOf 7 = .ok (.ifCond .ge 5, 3) := by decide +kernel
theorem dX1_lengthOf_10 : decode cX1_lengthOf 10 = .ok (.iconst (-1), 1) := by decide +kernel
theorem dX1_lengthOf_11 : decode cX1_lengthOf 11 = .ok (.ireturn, 1) := by decide +kernel
theorem dX1_lengthOf_12 : decode cX1_lengthOf 12 = .ok (.iload_n 1, 1) := by decide +kernel
theorem dX1_lengthOf_13 : decode cX1_lengthOf 13 = .ok (.ifCond .le 13, 3) := by decide +kernel
theorem dX1_lengthOf_16 : decode cX1_lengthOf 16 = .ok (.aload_n 0, 1) := by decide +kernel
theorem dX1_lengthOf_17 : decode cX1_lengthOf 17 = .ok (.iload_n 1, 1) := by decide +kernel
theorem dX1_lengthOf_18 : decode cX1_lengthOf 18 = .ok (.iconst 1, 1) := by decide +kernel
theorem dX1_lengthOf_19 : decode cX1_lengthOf 19 = .ok (.isub, 1) := by decide +kernel
theorem dX1_lengthOf_20 : decode cX1_lengthOf 20 = .ok (.invokevirtual 82, 3) := by decide +kernel
theorem dX1_lengthOf_23 : decode cX1_lengthOf 23 = .ok (.goto 4, 3) := by decide +kernel
theorem dX1_lengthOf_26 : decode cX1_lengthOf 26 = .ok (.iconst 0, 1) := by decide +kernel
theorem dX1_lengthOf_27 : decode cX1_lengthOf 27 = .ok (.istore_n 3, 1) := by decide +kernel
theorem dX1_lengthOf_28 : decode cX1_lengthOf 28 = .ok (.aload_n 0, 1) := by decide +kernel
theorem dX1_lengthOf_29 : decode cX1_lengthOf 29 = .ok (.iload_n 3, 1) := by decide +kernel
theorem dX1_lengthOf_30 : decode cX1_lengthOf 30 = .ok (.iload_n 2, 1) := by decide +kernel
theorem dX1_lengthOf_31 : decode cX1_lengthOf 31 = .ok (.invokevirtual 43, 3) := by decide +kernel
theorem dX1_lengthOf_34 : decode cX1_lengthOf 34 = .ok (.ireturn, 1) := by decide +kernel
theorem dX1_costWith_0 : decode cX1_costWith 0 = .ok (.iload_n 1, 1) := by decide +kernel
theorem dX1_costWith_1 : decode cX1_costWith 1 = .ok (.ifCond .lt 9, 3) := by decide +kernel
theorem dX1_costWith_4 : decode cX1_costWith 4 = .ok (.iload_n 1, 1) := by decide +kernel
theorem dX1_costWith_5 : decode cX1_costWith 5 = .ok (.bipush 10, 2) := by decide +kernel
theorem dX1_costWith_7 : decode cX1_costWith 7 = .ok (.if_icmp .le 6, 3) := by decide +kernel
theorem dX1_costWith_10 : decode cX1_costWith 10 = .ok (.ldc 78, 2) := by decide +kernel
theorem dX1_costWith_12 : decode cX1_costWith 12 = .ok (.ireturn, 1) := by decide +kernel
theorem dX1_costWith_13 : decode cX1_costWith 13 = .ok (.aload_n 0, 1) := by decide +kernel
theorem dX1_costWith_14 : decode cX1_costWith 14 = .ok (.invokevirtual 68, 3) := by decide +kernel
theorem dX1_costWith_17 : decode cX1_costWith 17 = .ok (.aload_n 0, 1) := by decide +kernel
theorem dX1_costWith_18 : decode cX1_costWith 18 = .ok (.getfield 16, 3) := by decide +kernel
theorem dX1_costWith_21 : decode cX1_costWith 21 = .ok (.iload_n 1, 1) := by decide +kernel
theorem dX1_costWith_22 : decode cX1_costWith 22 = .ok (.bipush 11, 2) := by decide +kernel
theorem dX1_costWith_24 : decode cX1_costWith 24 = .ok (.imul, 1) := by decide +kernel
theorem dX1_costWith_25 : decode cX1_costWith 25 = .ok (.iaload, 1) := by decide +kernel
theorem dX1_costWith_26 : decode cX1_costWith 26 = .ok (.ldc 50, 2) := by decide +kernel
theorem dX1_costWith_28 : decode cX1_costWith 28 = .ok (.if_icmp .ge 15, 3) := by decide +kernel
theorem dX1_costWith_31 : decode cX1_costWith 31 = .ok (.aload_n 0, 1) := by decide +kernel
theorem dX1_costWith_32 : decode cX1_costWith 32 = .ok (.getfield 16, 3) := by decide +kernel
theorem dX1_costWith_35 : decode cX1_costWith 35 = .ok (.iload_n 1, 1) := by decide +kernel
theorem dX1_costWith_36 : decode cX1_costWith 36 = .ok (.bipush 11, 2) := by decide +kernel
theorem dX1_costWith_38 : decode cX1_costWith 38 = .ok (.imul, 1) := by decide +kernel
theorem dX1_costWith_39 : decode cX1_costWith 39 = .ok (.iaload, 1) := by decide +kernel
theorem dX1_costWith_40 : decode cX1_costWith 40 = .ok (.goto 5, 3) := by decide +kernel
theorem dX1_costWith_43 : decode cX1_costWith 43 = .ok (.ldc 78, 2) := by decide +kernel
theorem dX1_costWith_45 : decode cX1_costWith 45 = .ok (.ireturn, 1) := by decide +kernel
theorem dX1_costBreaking_0 : decode cX1_costBreaking 0 = .ok (.iload_n 1, 1) := by decide +kernel
theorem dX1_costBreaking_1 : decode cX1_costBreaking 1 = .ok (.ifCond .lt 13, 3) := by decide +kernel
theorem dX1_costBreaking_4 : decode cX1_costBreaking 4 = .ok (.iload_n 1, 1) := by decide +kernel
theorem dX1_costBreaking_5 : decode cX1_costBreaking 5 = .ok (.aload_n 0, 1) := by decide +kernel
theorem dX1_costBreaking_6 : decode cX1_costBreaking 6 = .ok (.getfield 40, 3) := by decide +kernel
theorem dX1_costBreaking_9 : decode cX1_costBreaking 9 = .ok (.iconst 1, 1) := by decide +kernel
theorem dX1_costBreaking_10 : decode cX1_costBreaking 10 = .ok (.isub, 1) := by decide +kernel
theorem dX1_costBreaking_11 : decode cX1_costBreaking 11 = .ok (.if_icmp .lt 6, 3) := by decide +kernel
theorem dX1_costBreaking_14 : decode cX1_costBreaking 14 = .ok (.ldc 78, 2) := by decide +kernel
theorem dX1_costBreaking_16 : decode cX1_costBreaking 16 = .ok (.ireturn, 1) := by decide +kernel
theorem dX1_costBreaking_17 : decode cX1_costBreaking 17 = .ok (.aload_n 0, 1) := by decide +kernel
theorem dX1_costBreaking_18 : decode cX1_costBreaking 18 = .ok (.invokevirtual 68, 3) := by decide +kernel
theorem dX1_costBreaking_21 : decode cX1_costBreaking 21 = .ok (.aload_n 0, 1) := by decide +kernel
theorem dX1_costBreaking_22 : decode cX1_costBreaking 22 = .ok (.invokevirtual 86, 3) := by decide +kernel
theorem dX1_costBreaking_25 : decode cX1_costBreaking 25 = .ok (.iload_n 1, 1) := by decide +kernel
theorem dX1_costBreaking_26 : decode cX1_costBreaking 26 = .ok (.iconst 1, 1) := by decide +kernel
theorem dX1_costBreaking_27 : decode cX1_costBreaking 27 = .ok (.iadd, 1) := by decide +kernel
theorem dX1_costBreaking_28 : decode cX1_costBreaking 28 = .ok (.istore_n 2, 1) := by decide +kernel
theorem dX1_costBreaking_29 : decode cX1_costBreaking 29 = .ok (.aload_n 0, 1) := by decide +kernel
theorem dX1_costBreaking_30 : decode cX1_costBreaking 30 = .ok (.getfield 20, 3) := by decide +kernel
theorem dX1_costBreaking_33 : decode cX1_costBreaking 33 = .ok (.iload_n 2, 1) := by decide +kernel
theorem dX1_costBreaking_34 : decode cX1_costBreaking 34 = .ok (.iaload, 1) := by decide +kernel
theorem dX1_costBreaking_35 : decode cX1_costBreaking 35 = .ok (.ldc 50, 2) := by decide +kernel
theorem dX1_costBreaking_37 : decode cX1_costBreaking 37 = .ok (.if_icmp .ge 30, 3) := by decide +kernel
theorem dX1_costBreaking_40 : decode cX1_costBreaking 40 = .ok (.aload_n 0, 1) := by decide +kernel
theorem dX1_costBreaking_41 : decode cX1_costBreaking 41 = .ok (.getfield 23, 3) := by decide +kernel
theorem dX1_costBreaking_44 : decode cX1_costBreaking 44 = .ok (.iload_n 2, 1) := by decide +kernel
theorem dX1_costBreaking_45 : decode cX1_costBreaking 45 = .ok (.iaload, 1) := by decide +kernel
theorem dX1_costBreaking_46 : decode cX1_costBreaking 46 = .ok (.ldc 50, 2) := by decide +kernel
theorem dX1_costBreaking_48 : decode cX1_costBreaking 48 = .ok (.if_icmp .ge 19, 3) := by decide +kernel
theorem dX1_costBreaking_51 : decode cX1_costBreaking 51 = .ok (.aload_n 0, 1) := by decide +kernel
theorem dX1_costBreaking_52 : decode cX1_costBreaking 52 = .ok (.getfield 20, 3) := by decide +kernel
theorem dX1_costBreaking_55 : decode cX1_costBreaking 55 = .ok (.iload_n 2, 1) := by decide +kernel
theorem dX1_costBreaking_56 : decode cX1_costBreaking 56 = .ok (.iaload, 1) := by decide +kernel
theorem dX1_costBreaking_57 : decode cX1_costBreaking 57 = .ok (.aload_n 0, 1) := by decide +kernel
theorem dX1_costBreaking_58 : decode cX1_costBreaking 58 = .ok (.getfield 23, 3) := by decide +kernel
theorem dX1_costBreaking_61 : decode cX1_costBreaking 61 = .ok (.iload_n 2, 1) := by decide +kernel
theorem dX1_costBreaking_62 : decode cX1_costBreaking 62 = .ok (.iaload, 1) := by decide +kernel
theorem dX1_costBreaking_63 : decode cX1_costBreaking 63 = .ok (.iadd, 1) := by decide +kernel
theorem dX1_costBreaking_64 : decode cX1_costBreaking 64 = .ok (.goto 5, 3) := by decide +kernel
theorem dX1_costBreaking_67 : decode cX1_costBreaking 67 = .ok (.ldc 78, 2) := by decide +kernel
theorem dX1_costBreaking_69 : decode cX1_costBreaking 69 = .ok (.ireturn, 1) := by decide +kernel
theorem dX1_findUpTo_0 : decode cX1_findUpTo 0 = .ok (.aload_n 0, 1) := by decide +kernel
theorem dX1_findUpTo_1 : decode cX1_findUpTo 1 = .ok (.getfield 20, 3) := by decide +kernel
theorem dX1_findUpTo_4 : decode cX1_findUpTo 4 = .ok (.iconst 0, 1) := by decide +kernel
theorem dX1_findUpTo_5 : decode cX1_findUpTo 5 = .ok (.iconst 0, 1) := by decide +kernel
theorem dX1_findUpTo_6 : decode cX1_findUpTo 6 = .ok (.iastore, 1) := by decide +kernel
theorem dX1_findUpTo_7 : decode cX1_findUpTo 7 = .ok (.iconst 1, 1) := by decide +kernel
theorem dX1_findUpTo_8 : decode cX1_findUpTo 8 = .ok (.istore_n 1, 1) := by decide +kernel
theorem dX1_findUpTo_9 : decode cX1_findUpTo 9 = .ok (.iload_n 1, 1) := by decide +kernel
theorem dX1_findUpTo_10 : decode cX1_findUpTo 10 = .ok (.aload_n 0, 1) := by decide +kernel
theorem dX1_findUpTo_11 : decode cX1_findUpTo 11 = .ok (.getfield 40, 3) := by decide +kernel
theorem dX1_findUpTo_14 : decode cX1_findUpTo 14 = .ok (.if_icmp .ge 85, 3) := by decide +kernel
theorem dX1_findUpTo_17 : decode cX1_findUpTo 17 = .ok (.aload_n 0, 1) := by decide +kernel
theorem dX1_findUpTo_18 : decode cX1_findUpTo 18 = .ok (.getfield 20, 3) := by decide +kernel
theorem dX1_findUpTo_21 : decode cX1_findUpTo 21 = .ok (.iload_n 1, 1) := by decide +kernel
theorem dX1_findUpTo_22 : decode cX1_findUpTo 22 = .ok (.ldc 50, 2) := by decide +kernel
theorem dX1_findUpTo_24 : decode cX1_findUpTo 24 = .ok (.iastore, 1) := by decide +kernel
theorem dX1_findUpTo_25 : decode cX1_findUpTo 25 = .ok (.iconst 0, 1) := by decide +kernel
theorem dX1_findUpTo_26 : decode cX1_findUpTo 26 = .ok (.istore_n 2, 1) := by decide +kernel
theorem dX1_findUpTo_27 : decode cX1_findUpTo 27 = .ok (.iload_n 2, 1) := by decide +kernel
theorem dX1_findUpTo_28 : decode cX1_findUpTo 28 = .ok (.iload_n 1, 1) := by decide +kernel
theorem dX1_findUpTo_29 : decode cX1_findUpTo 29 = .ok (.if_icmp .ge 64, 3) := by decide +kernel
theorem dX1_findUpTo_32 : decode cX1_findUpTo 32 = .ok (.aload_n 0, 1) := by decide +kernel
theorem dX1_findUpTo_33 : decode cX1_findUpTo 33 = .ok (.iload_n 2, 1) := by decide +kernel
theorem dX1_findUpTo_34 : decode cX1_findUpTo 34 = .ok (.iload_n 1, 1) := by decide +kernel
theorem dX1_findUpTo_35 : decode cX1_findUpTo 35 = .ok (.invokevirtual 62, 3) := by decide +kernel
theorem dX1_findUpTo_38 : decode cX1_findUpTo 38 = .ok (.istore_n 3, 1) := by decide +kernel
theorem dX1_findUpTo_39 : decode cX1_findUpTo 39 = .ok (.iload_n 3, 1) := by decide +kernel
theorem dX1_findUpTo_40 : decode cX1_findUpTo 40 = .ok (.ldc 50, 2) := by decide +kernel
theorem dX1_findUpTo_42 : decode cX1_findUpTo 42 = .ok (.if_icmp .ge 45, 3) := by decide +kernel
theorem dX1_findUpTo_45 : decode cX1_findUpTo 45 = .ok (.aload_n 0, 1) := by decide +kernel
theorem dX1_findUpTo_46 : decode cX1_findUpTo 46 = .ok (.getfield 20, 3) := by decide +kernel
theorem dX1_findUpTo_49 : decode cX1_findUpTo 49 = .ok (.iload_n 2, 1) := by decide +kernel
theorem dX1_findUpTo_50 : decode cX1_findUpTo 50 = .ok (.iaload, 1) := by decide +kernel
theorem dX1_findUpTo_51 : decode cX1_findUpTo 51 = .ok (.ldc 50, 2) := by decide +kernel
theorem dX1_findUpTo_53 : decode cX1_findUpTo 53 = .ok (.if_icmp .ge 34, 3) := by decide +kernel
theorem dX1_findUpTo_56 : decode cX1_findUpTo 56 = .ok (.aload_n 0, 1) := by decide +kernel
theorem dX1_findUpTo_57 : decode cX1_findUpTo 57 = .ok (.getfield 20, 3) := by decide +kernel
theorem dX1_findUpTo_60 : decode cX1_findUpTo 60 = .ok (.iload_n 2, 1) := by decide +kernel
theorem dX1_findUpTo_61 : decode cX1_findUpTo 61 = .ok (.iaload, 1) := by decide +kernel
theorem dX1_findUpTo_62 : decode cX1_findUpTo 62 = .ok (.iload_n 3, 1) := by decide +kernel
theorem dX1_findUpTo_63 : decode cX1_findUpTo 63 = .ok (.iadd, 1) := by decide +kernel
theorem dX1_findUpTo_64 : decode cX1_findUpTo 64 = .ok (.aload_n 0, 1) := by decide +kernel
theorem dX1_findUpTo_65 : decode cX1_findUpTo 65 = .ok (.getfield 20, 3) := by decide +kernel
theorem dX1_findUpTo_68 : decode cX1_findUpTo 68 = .ok (.iload_n 1, 1) := by decide +kernel
theorem dX1_findUpTo_69 : decode cX1_findUpTo 69 = .ok (.iaload, 1) := by decide +kernel
theorem dX1_findUpTo_70 : decode cX1_findUpTo 70 = .ok (.if_icmp .ge 17, 3) := by decide +kernel
theorem dX1_findUpTo_73 : decode cX1_findUpTo 73 = .ok (.aload_n 0, 1) := by decide +kernel
theorem dX1_findUpTo_74 : decode cX1_findUpTo 74 = .ok (.getfield 20, 3) := by decide +kernel
theorem dX1_findUpTo_77 : decode cX1_findUpTo 77 = .ok (.iload_n 1, 1) := by decide +kernel
theorem dX1_findUpTo_78 : decode cX1_findUpTo 78 = .ok (.aload_n 0, 1) := by decide +kernel
theorem dX1_findUpTo_79 : decode cX1_findUpTo 79 = .ok (.getfield 20, 3) := by decide +kernel
theorem dX1_findUpTo_82 : decode cX1_findUpTo 82 = .ok (.iload_n 2, 1) := by decide +kernel
theorem dX1_findUpTo_83 : decode cX1_findUpTo 83 = .ok (.iaload, 1) := by decide +kernel
theorem dX1_findUpTo_84 : decode cX1_findUpTo 84 = .ok (.iload_n 3, 1) := by decide +kernel
theorem dX1_findUpTo_85 : decode cX1_findUpTo 85 = .ok (.iadd, 1) := by decide +kernel
theorem dX1_findUpTo_86 : decode cX1_findUpTo 86 = .ok (.iastore, 1) := by decide +kernel
theorem dX1_findUpTo_87 : decode cX1_findUpTo 87 = .ok (.iinc 2 1, 3) := by decide +kernel
theorem dX1_findUpTo_90 : decode cX1_findUpTo 90 = .ok (.goto (-63), 3) := by decide +kernel
theorem dX1_findUpTo_93 : decode cX1_findUpTo 93 = .ok (.iinc 1 1, 3) := by decide +kernel
theorem dX1_findUpTo_96 : decode cX1_findUpTo 96 = .ok (.goto (-87), 3) := by decide +kernel
theorem dX1_findUpTo_99 : decode cX1_findUpTo 99 = .ok (.return_, 1) := by decide +kernel
theorem dX1_costKeeping_0 : decode cX1_costKeeping 0 = .ok (.iload_n 1, 1) := by decide +kernel
theorem dX1_costKeeping_1 : decode cX1_costKeeping 1 = .ok (.ifCond .lt 13, 3) := by decide +kernel
theorem dX1_costKeeping_4 : decode cX1_costKeeping 4 = .ok (.iload_n 1, 1) := by decide +kernel
theorem dX1_costKeeping_5 : decode cX1_costKeeping 5 = .ok (.aload_n 0, 1) := by decide +kernel
theorem dX1_costKeeping_6 : decode cX1_costKeeping 6 = .ok (.getfield 40, 3) := by decide +kernel
theorem dX1_costKeeping_9 : decode cX1_costKeeping 9 = .ok (.iconst 1, 1) := by decide +kernel
theorem dX1_costKeeping_10 : decode cX1_costKeeping 10 = .ok (.isub, 1) := by decide +kernel
theorem dX1_costKeeping_11 : decode cX1_costKeeping 11 = .ok (.if_icmp .lt 6, 3) := by decide +kernel
theorem dX1_costKeeping_14 : decode cX1_costKeeping 14 = .ok (.ldc 78, 2) := by decide +kernel
theorem dX1_costKeeping_16 : decode cX1_costKeeping 16 = .ok (.ireturn, 1) := by decide +kernel
theorem dX1_costKeeping_17 : decode cX1_costKeeping 17 = .ok (.aload_n 0, 1) := by decide +kernel
theorem dX1_costKeeping_18 : decode cX1_costKeeping 18 = .ok (.iload_n 1, 1) := by decide +kernel
theorem dX1_costKeeping_19 : decode cX1_costKeeping 19 = .ok (.putfield 47, 3) := by decide +kernel
theorem dX1_costKeeping_22 : decode cX1_costKeeping 22 = .ok (.aload_n 0, 1) := by decide +kernel
theorem dX1_costKeeping_23 : decode cX1_costKeeping 23 = .ok (.invokevirtual 65, 3) := by decide +kernel
theorem dX1_costKeeping_26 : decode cX1_costKeeping 26 = .ok (.aload_n 0, 1) := by decide +kernel
theorem dX1_costKeeping_27 : decode cX1_costKeeping 27 = .ok (.getfield 23, 3) := by decide +kernel
theorem dX1_costKeeping_30 : decode cX1_costKeeping 30 = .ok (.iconst 0, 1) := by decide +kernel
theorem dX1_costKeeping_31 : decode cX1_costKeeping 31 = .ok (.iaload, 1) := by decide +kernel
theorem dX1_costKeeping_32 : decode cX1_costKeeping 32 = .ok (.ldc 50, 2) := by decide +kernel
theorem dX1_costKeeping_34 : decode cX1_costKeeping 34 = .ok (.if_icmp .ge 12, 3) := by decide +kernel
theorem dX1_costKeeping_37 : decode cX1_costKeeping 37 = .ok (.aload_n 0, 1) := by decide +kernel
theorem dX1_costKeeping_38 : decode cX1_costKeeping 38 = .ok (.getfield 23, 3) := by decide +kernel
theorem dX1_costKeeping_41 : decode cX1_costKeeping 41 = .ok (.iconst 0, 1) := by decide +kernel
theorem dX1_costKeeping_42 : decode cX1_costKeeping 42 = .ok (.iaload, 1) := by decide +kernel
theorem dX1_costKeeping_43 : decode cX1_costKeeping 43 = .ok (.goto 5, 3) := by decide +kernel
theorem dX1_costKeeping_46 : decode cX1_costKeeping 46 = .ok (.ldc 78, 2) := by decide +kernel
theorem dX1_costKeeping_48 : decode cX1_costKeeping 48 = .ok (.ireturn, 1) := by decide +kernel
theorem dX1_choices_0 : decode cX1_choices 0 = .ok (.aload_n 0, 1) := by decide +kernel
theorem dX1_choices_1 : decode cX1_choices 1 = .ok (.invokevirtual 68, 3) := by decide +kernel
theorem dX1_choices_4 : decode cX1_choices 4 = .ok (.aload_n 0, 1) := by decide +kernel
theorem dX1_choices_5 : decode cX1_choices 5 = .ok (.getfield 26, 3) := by decide +kernel
theorem dX1_choices_8 : decode cX1_choices 8 = .ok (.iconst 0, 1) := by decide +kernel
theorem dX1_choices_9 : decode cX1_choices 9 = .ok (.iaload, 1) := by decide +kernel
theorem dX1_choices_10 : decode cX1_choices 10 = .ok (.ireturn, 1) := by decide +kernel
end
section
/-! ParagraphBreakerModel -/
set_option maxRecDepth 100000
def RX2 : String := "ParagraphBreakerModel"
def TX2 : u_T := fun k => match k with
  | 0 => ("ParagraphBreakerModel", "room", "I", false)
  | 1 => ("ParagraphBreakerModel", "more", "I", false)
  | 2 => ("ParagraphBreakerModel", "size", "I", false)
  | 3 => ("ParagraphBreakerModel", "wide", "[I", false)
  | _ => ("ParagraphBreakerModel", "price", "[I", false)
def tyX2 : Nat → FieldType := fun k => match k with
  | 0 => .int
  | 1 => .int
  | 2 => .int
  | 3 => .array .int
  | _ => .array .int
abbrev wsX20 : List Cond := u_ws RX2 TX2 5
theorem nmX2 : ∀ a, a < 5 → ∀ b, b < 5 → a ≠ b → (TX2 a).2.1 ≠ (TX2 b).2.1 := by decide +kernel
theorem tyX2_ok : ∀ k, k < 5 → parseFieldDescriptor (TX2 k).2.2.1 = some (tyX2 k) := by decide +kernel
abbrev cX2_init : ByteArray := prog_3_method_1_code
def yX2_init : MethodName := ⟨RX2, "<init>", "(II)V"⟩
abbrev cX2_word : ByteArray := prog_3_method_3_code
def yX2_word : MethodName := ⟨RX2, "word", "(II)I"⟩
abbrev cX2_good : ByteArray := prog_3_method_2_code
def yX2_good : MethodName := ⟨RX2, "good", "(II)Z"⟩
abbrev cX2_back : ByteArray := prog_3_method_4_code
def yX2_back : MethodName := ⟨RX2, "back", "()I"⟩
abbrev cX2_change : ByteArray := prog_3_method_6_code
def yX2_change : MethodName := ⟨RX2, "change", "(III)Z"⟩
abbrev cX2_is : ByteArray := prog_3_method_5_code
def yX2_is : MethodName := ⟨RX2, "is", "(I)Z"⟩
abbrev cX2_setWidth : ByteArray := prog_3_method_7_code
def yX2_setWidth : MethodName := ⟨RX2, "setWidth", "(I)Z"⟩
abbrev cX2_words : ByteArray := prog_3_method_8_code
def yX2_words : MethodName := ⟨RX2, "words", "()I"⟩
abbrev cX2_cost : ByteArray := prog_3_method_16_code
def yX2_cost : MethodName := ⟨RX2, "cost", "()I"⟩
abbrev cX2_best : ByteArray := prog_3_method_15_code
def yX2_best : MethodName := ⟨RX2, "best", "(II)I"⟩
abbrev cX2_sets : ByteArray := prog_3_method_12_code
def yX2_sets : MethodName := ⟨RX2, "sets", "()I"⟩
abbrev cX2_costOf : ByteArray := prog_3_method_11_code
def yX2_costOf : MethodName := ⟨RX2, "costOf", "(I)I"⟩
abbrev cX2_badness : ByteArray := prog_3_method_10_code
def yX2_badness : MethodName := ⟨RX2, "badness", "(II)I"⟩
abbrev cX2_length : ByteArray := prog_3_method_9_code
def yX2_length : MethodName := ⟨RX2, "length", "(II)I"⟩
abbrev cX2_before : ByteArray := prog_3_method_14_code
def yX2_before : MethodName := ⟨RX2, "before", "(II)Z"⟩
abbrev cX2_count : ByteArray := prog_3_method_13_code
def yX2_count : MethodName := ⟨RX2, "count", "(I)I"⟩
abbrev cX2_lines : ByteArray := prog_3_method_17_code
def yX2_lines : MethodName := ⟨RX2, "lines", "()I"⟩
abbrev cX2_lineOf : ByteArray := prog_3_method_18_code
def yX2_lineOf : MethodName := ⟨RX2, "lineOf", "(I)I"⟩
abbrev cX2_endOf : ByteArray := prog_3_method_19_code
def yX2_endOf : MethodName := ⟨RX2, "endOf", "(I)I"⟩
abbrev cX2_lengthOf : ByteArray := prog_3_method_20_code
def yX2_lengthOf : MethodName := ⟨RX2, "lengthOf", "(I)I"⟩
abbrev cX2_costWith : ByteArray := prog_3_method_21_code
def yX2_costWith : MethodName := ⟨RX2, "costWith", "(I)I"⟩
abbrev cX2_costBreaking : ByteArray := prog_3_method_22_code
def yX2_costBreaking : MethodName := ⟨RX2, "costBreaking", "(I)I"⟩
abbrev cX2_costKeeping : ByteArray := prog_3_method_23_code
def yX2_costKeeping : MethodName := ⟨RX2, "costKeeping", "(I)I"⟩
abbrev cX2_choices : ByteArray := prog_3_method_24_code
def yX2_choices : MethodName := ⟨RX2, "choices", "()I"⟩
theorem q22 : (Jvm.Cond.initialized "ParagraphBreakerModel") ∈ lw_all := lw_g (lw_at lw_m1 2 rfl) rfl
theorem q174 : (Jvm.Cond.instantiable "ParagraphBreakerModel" (5 : Nat)) ∈ lw_all := lw_g (lw_at lw_m1 154 rfl) rfl
theorem q176 : (Jvm.Cond.instanceMethod ({ cls := "ParagraphBreakerModel", name := "<init>", desc := "(II)V" } : Jvm.MethodName)) ∈ lw_all := lw_g (lw_at lw_m1 156 rfl) rfl
theorem q177 : (Jvm.Cond.code ({ cls := "ParagraphBreakerModel", name := "<init>", desc := "(II)V" } : Jvm.MethodName) prog_3_method_1_code (3 : Nat) (Option.none : Option Jvm.ClassFile.FieldType)) ∈ lw_all := lw_g (lw_at lw_m1 157 rfl) rfl
theorem q178 : (Jvm.Cond.methodLink "ParagraphBreakerModel" (1 : Nat) ({ cls := "java/lang/Object", name := "<init>", desc := "()V" } : Jvm.MethodName)) ∈ lw_all := lw_g (lw_at lw_m1 158 rfl) rfl
theorem q179 : (Jvm.Cond.fieldLink "ParagraphBreakerModel" (16 : Nat) "ParagraphBreakerModel" "room" "I") ∈ lw_all := lw_g (lw_at lw_m1 159 rfl) rfl
theorem q180 : (Jvm.Cond.fieldLink "ParagraphBreakerModel" (20 : Nat) "ParagraphBreakerModel" "more" "I") ∈ lw_all := lw_g (lw_at lw_m1 160 rfl) rfl
theorem q181 : (Jvm.Cond.fieldLink "ParagraphBreakerModel" (27 : Nat) "ParagraphBreakerModel" "size" "I") ∈ lw_all := lw_g (lw_at lw_m1 161 rfl) rfl
theorem q182 : (Jvm.Cond.fieldLink "ParagraphBreakerModel" (7 : Nat) "ParagraphBreakerModel" "wide" "[I") ∈ lw_all := lw_g (lw_at lw_m1 162 rfl) rfl
theorem q183 : (Jvm.Cond.fieldLink "ParagraphBreakerModel" (13 : Nat) "ParagraphBreakerModel" "price" "[I") ∈ lw_all := lw_g (lw_at lw_m1 163 rfl) rfl
theorem q184 : (Jvm.Cond.lays "ParagraphBreakerModel" "ParagraphBreakerModel" "room" "I") ∈ lw_all := lw_g (lw_at lw_m1 164 rfl) rfl
theorem q185 : (Jvm.Cond.soleField "ParagraphBreakerModel" "room") ∈ lw_all := lw_g (lw_at lw_m1 165 rfl) rfl
theorem q186 : (Jvm.Cond.lays "ParagraphBreakerModel" "ParagraphBreakerModel" "more" "I") ∈ lw_all := lw_g (lw_at lw_m1 166 rfl) rfl
theorem q187 : (Jvm.Cond.soleField "ParagraphBreakerModel" "more") ∈ lw_all := lw_g (lw_at lw_m1 167 rfl) rfl
theorem q188 : (Jvm.Cond.lays "ParagraphBreakerModel" "ParagraphBreakerModel" "size" "I") ∈ lw_all := lw_g (lw_at lw_m1 168 rfl) rfl
theorem q189 : (Jvm.Cond.soleField "ParagraphBreakerModel" "size") ∈ lw_all := lw_g (lw_at lw_m1 169 rfl) rfl
theorem q190 : (Jvm.Cond.lays "ParagraphBreakerModel" "ParagraphBreakerModel" "wide" "[I") ∈ lw_all := lw_g (lw_at lw_m1 170 rfl) rfl
theorem q191 : (Jvm.Cond.soleField "ParagraphBreakerModel" "wide") ∈ lw_all := lw_g (lw_at lw_m1 171 rfl) rfl
theorem q192 : (Jvm.Cond.lays "ParagraphBreakerModel" "ParagraphBreakerModel" "price" "[I") ∈ lw_all := lw_g (lw_at lw_m1 172 rfl) rfl
theorem q193 : (Jvm.Cond.soleField "ParagraphBreakerModel" "price") ∈ lw_all := lw_g (lw_at lw_m1 173 rfl) rfl
theorem q194 : (Jvm.Cond.superclass "ParagraphBreakerModel" "java/lang/Object") ∈ lw_all := lw_g (lw_at lw_m1 174 rfl) rfl
theorem q196 : (Jvm.Cond.instanceMethod ({ cls := "ParagraphBreakerModel", name := "word", desc := "(II)I" } : Jvm.MethodName)) ∈ lw_all := lw_g (lw_at lw_m1 176 rfl) rfl
theorem q197 : (Jvm.Cond.selects "ParagraphBreakerModel" ({ cls := "ParagraphBreakerModel", name := "word", desc := "(II)I" } : Jvm.MethodName) ({ cls := "ParagraphBreakerModel", name := "word", desc := "(II)I" } : Jvm.MethodName)) ∈ lw_all := lw_g (lw_at lw_m1 177 rfl) rfl
theorem q198 : (Jvm.Cond.code ({ cls := "ParagraphBreakerModel", name := "word", desc := "(II)I" } : Jvm.MethodName) prog_3_method_3_code (3 : Nat) (Option.some Jvm.ClassFile.FieldType.int)) ∈ lw_all := lw_g (lw_at lw_m1 178 rfl) rfl
theorem q199 : (Jvm.Cond.methodLink "ParagraphBreakerModel" (23 : Nat) ({ cls := "ParagraphBreakerModel", name := "good", desc := "(II)Z" } : Jvm.MethodName)) ∈ lw_all := lw_g (lw_at lw_m1 179 rfl) rfl
theorem q200 : (Jvm.Cond.privateMethod ({ cls := "ParagraphBreakerModel", name := "good", desc := "(II)Z" } : Jvm.MethodName)) ∈ lw_tbl := lw_at lw_m1 180 rfl
theorem q201 : (Jvm.Cond.instanceMethod ({ cls := "ParagraphBreakerModel", name := "good", desc := "(II)Z" } : Jvm.MethodName)) ∈ lw_all := lw_g (lw_at lw_m1 181 rfl) rfl
theorem q202 : (Jvm.Cond.code ({ cls := "ParagraphBreakerModel", name := "good", desc := "(II)Z" } : Jvm.MethodName) prog_3_method_2_code (3 : Nat) (Option.some Jvm.ClassFile.FieldType.boolean)) ∈ lw_all := lw_g (lw_at lw_m1 182 rfl) rfl
theorem q204 : (Jvm.Cond.instanceMethod ({ cls := "ParagraphBreakerModel", name := "back", desc := "()I" } : Jvm.MethodName)) ∈ lw_all := lw_g (lw_at lw_m1 184 rfl) rfl
theorem q205 : (Jvm.Cond.selects "ParagraphBreakerModel" ({ cls := "ParagraphBreakerModel", name := "back", desc := "()I" } : Jvm.MethodName) ({ cls := "ParagraphBreakerModel", name := "back", desc := "()I" } : Jvm.MethodName)) ∈ lw_all := lw_g (lw_at lw_m1 185 rfl) rfl
theorem q206 : (Jvm.Cond.code ({ cls := "ParagraphBreakerModel", name := "back", desc := "()I" } : Jvm.MethodName) prog_3_method_4_code (1 : Nat) (Option.some Jvm.ClassFile.FieldType.int)) ∈ lw_all := lw_g (lw_at lw_m1 186 rfl) rfl
theorem q208 : (Jvm.Cond.instanceMethod ({ cls := "ParagraphBreakerModel", name := "change", desc := "(III)Z" } : Jvm.MethodName)) ∈ lw_all := lw_g (lw_at lw_m1 188 rfl) rfl
theorem q209 : (Jvm.Cond.selects "ParagraphBreakerModel" ({ cls := "ParagraphBreakerModel", name := "change", desc := "(III)Z" } : Jvm.MethodName) ({ cls := "ParagraphBreakerModel", name := "change", desc := "(III)Z" } : Jvm.MethodName)) ∈ lw_all := lw_g (lw_at lw_m1 189 rfl) rfl
theorem q210 : (Jvm.Cond.code ({ cls := "ParagraphBreakerModel", name := "change", desc := "(III)Z" } : Jvm.MethodName) prog_3_method_6_code (4 : Nat) (Option.some Jvm.ClassFile.FieldType.boolean)) ∈ lw_all := lw_g (lw_at lw_m1 190 rfl) rfl
theorem q211 : (Jvm.Cond.methodLink "ParagraphBreakerModel" (30 : Nat) ({ cls := "ParagraphBreakerModel", name := "is", desc := "(I)Z" } : Jvm.MethodName)) ∈ lw_all := lw_g (lw_at lw_m1 191 rfl) rfl
theorem q212 : (Jvm.Cond.privateMethod ({ cls := "ParagraphBreakerModel", name := "is", desc := "(I)Z" } : Jvm.MethodName)) ∈ lw_tbl := lw_at lw_m1 192 rfl
theorem q213 : (Jvm.Cond.instanceMethod ({ cls := "ParagraphBreakerModel", name := "is", desc := "(I)Z" } : Jvm.MethodName)) ∈ lw_all := lw_g (lw_at lw_m1 193 rfl) rfl
theorem q214 : (Jvm.Cond.code ({ cls := "ParagraphBreakerModel", name := "is", desc := "(I)Z" } : Jvm.MethodName) prog_3_method_5_code (2 : Nat) (Option.some Jvm.ClassFile.FieldType.boolean)) ∈ lw_all := lw_g (lw_at lw_m1 194 rfl) rfl
theorem q216 : (Jvm.Cond.instanceMethod ({ cls := "ParagraphBreakerModel", name := "setWidth", desc := "(I)Z" } : Jvm.MethodName)) ∈ lw_all := lw_g (lw_at lw_m1 196 rfl) rfl
theorem q217 : (Jvm.Cond.selects "ParagraphBreakerModel" ({ cls := "ParagraphBreakerModel", name := "setWidth", desc := "(I)Z" } : Jvm.MethodName) ({ cls := "ParagraphBreakerModel", name := "setWidth", desc := "(I)Z" } : Jvm.MethodName)) ∈ lw_all := lw_g (lw_at lw_m1 197 rfl) rfl
theorem q218 : (Jvm.Cond.code ({ cls := "ParagraphBreakerModel", name := "setWidth", desc := "(I)Z" } : Jvm.MethodName) prog_3_method_7_code (2 : Nat) (Option.some Jvm.ClassFile.FieldType.boolean)) ∈ lw_all := lw_g (lw_at lw_m1 198 rfl) rfl
theorem q220 : (Jvm.Cond.instanceMethod ({ cls := "ParagraphBreakerModel", name := "words", desc := "()I" } : Jvm.MethodName)) ∈ lw_all := lw_g (lw_at lw_m1 200 rfl) rfl
theorem q221 : (Jvm.Cond.selects "ParagraphBreakerModel" ({ cls := "ParagraphBreakerModel", name := "words", desc := "()I" } : Jvm.MethodName) ({ cls := "ParagraphBreakerModel", name := "words", desc := "()I" } : Jvm.MethodName)) ∈ lw_all := lw_g (lw_at lw_m1 201 rfl) rfl
theorem q222 : (Jvm.Cond.code ({ cls := "ParagraphBreakerModel", name := "words", desc := "()I" } : Jvm.MethodName) prog_3_method_8_code (1 : Nat) (Option.some Jvm.ClassFile.FieldType.int)) ∈ lw_all := lw_g (lw_at lw_m1 202 rfl) rfl
theorem q224 : (Jvm.Cond.instanceMethod ({ cls := "ParagraphBreakerModel", name := "cost", desc := "()I" } : Jvm.MethodName)) ∈ lw_all := lw_g (lw_at lw_m1 204 rfl) rfl
theorem q225 : (Jvm.Cond.selects "ParagraphBreakerModel" ({ cls := "ParagraphBreakerModel", name := "cost", desc := "()I" } : Jvm.MethodName) ({ cls := "ParagraphBreakerModel", name := "cost", desc := "()I" } : Jvm.MethodName)) ∈ lw_all := lw_g (lw_at lw_m1 205 rfl) rfl
theorem q226 : (Jvm.Cond.code ({ cls := "ParagraphBreakerModel", name := "cost", desc := "()I" } : Jvm.MethodName) prog_3_method_16_code (2 : Nat) (Option.some Jvm.ClassFile.FieldType.int)) ∈ lw_all := lw_g (lw_at lw_m1 206 rfl) rfl
theorem q227 : (Jvm.Cond.methodLink "ParagraphBreakerModel" (56 : Nat) ({ cls := "ParagraphBreakerModel", name := "best", desc := "(II)I" } : Jvm.MethodName)) ∈ lw_all := lw_g (lw_at lw_m1 207 rfl) rfl
theorem q228 : (Jvm.Cond.privateMethod ({ cls := "ParagraphBreakerModel", name := "best", desc := "(II)I" } : Jvm.MethodName)) ∈ lw_tbl := lw_at lw_m1 208 rfl
theorem q229 : (Jvm.Cond.instanceMethod ({ cls := "ParagraphBreakerModel", name := "best", desc := "(II)I" } : Jvm.MethodName)) ∈ lw_all := lw_g (lw_at lw_m1 209 rfl) rfl
theorem q230 : (Jvm.Cond.code ({ cls := "ParagraphBreakerModel", name := "best", desc := "(II)I" } : Jvm.MethodName) prog_3_method_15_code (7 : Nat) (Option.some Jvm.ClassFile.FieldType.int)) ∈ lw_all := lw_g (lw_at lw_m1 210 rfl) rfl
theorem q231 : (Jvm.Cond.methodLink "ParagraphBreakerModel" (46 : Nat) ({ cls := "ParagraphBreakerModel", name := "sets", desc := "()I" } : Jvm.MethodName)) ∈ lw_all := lw_g (lw_at lw_m1 211 rfl) rfl
theorem q232 : (Jvm.Cond.privateMethod ({ cls := "ParagraphBreakerModel", name := "sets", desc := "()I" } : Jvm.MethodName)) ∈ lw_tbl := lw_at lw_m1 212 rfl
theorem q233 : (Jvm.Cond.instanceMethod ({ cls := "ParagraphBreakerModel", name := "sets", desc := "()I" } : Jvm.MethodName)) ∈ lw_all := lw_g (lw_at lw_m1 213 rfl) rfl
theorem q234 : (Jvm.Cond.code ({ cls := "ParagraphBreakerModel", name := "sets", desc := "()I" } : Jvm.MethodName) prog_3_method_12_code (1 : Nat) (Option.some Jvm.ClassFile.FieldType.int)) ∈ lw_all := lw_g (lw_at lw_m1 214 rfl) rfl
theorem q235 : (Jvm.Cond.methodLink "ParagraphBreakerModel" (50 : Nat) ({ cls := "ParagraphBreakerModel", name := "costOf", desc := "(I)I" } : Jvm.MethodName)) ∈ lw_all := lw_g (lw_at lw_m1 215 rfl) rfl
theorem q236 : (Jvm.Cond.privateMethod ({ cls := "ParagraphBreakerModel", name := "costOf", desc := "(I)I" } : Jvm.MethodName)) ∈ lw_tbl := lw_at lw_m1 216 rfl
theorem q237 : (Jvm.Cond.instanceMethod ({ cls := "ParagraphBreakerModel", name := "costOf", desc := "(I)I" } : Jvm.MethodName)) ∈ lw_all := lw_g (lw_at lw_m1 217 rfl) rfl
theorem q238 : (Jvm.Cond.code ({ cls := "ParagraphBreakerModel", name := "costOf", desc := "(I)I" } : Jvm.MethodName) prog_3_method_11_code (8 : Nat) (Option.some Jvm.ClassFile.FieldType.int)) ∈ lw_all := lw_g (lw_at lw_m1 218 rfl) rfl
theorem q239 : (Jvm.Cond.methodLink "ParagraphBreakerModel" (38 : Nat) ({ cls := "ParagraphBreakerModel", name := "badness", desc := "(II)I" } : Jvm.MethodName)) ∈ lw_all := lw_g (lw_at lw_m1 219 rfl) rfl
theorem q240 : (Jvm.Cond.privateMethod ({ cls := "ParagraphBreakerModel", name := "badness", desc := "(II)I" } : Jvm.MethodName)) ∈ lw_tbl := lw_at lw_m1 220 rfl
theorem q241 : (Jvm.Cond.instanceMethod ({ cls := "ParagraphBreakerModel", name := "badness", desc := "(II)I" } : Jvm.MethodName)) ∈ lw_all := lw_g (lw_at lw_m1 221 rfl) rfl
theorem q242 : (Jvm.Cond.code ({ cls := "ParagraphBreakerModel", name := "badness", desc := "(II)I" } : Jvm.MethodName) prog_3_method_10_code (4 : Nat) (Option.some Jvm.ClassFile.FieldType.int)) ∈ lw_all := lw_g (lw_at lw_m1 222 rfl) rfl
theorem q243 : (Jvm.Cond.methodLink "ParagraphBreakerModel" (34 : Nat) ({ cls := "ParagraphBreakerModel", name := "length", desc := "(II)I" } : Jvm.MethodName)) ∈ lw_all := lw_g (lw_at lw_m1 223 rfl) rfl
theorem q244 : (Jvm.Cond.privateMethod ({ cls := "ParagraphBreakerModel", name := "length", desc := "(II)I" } : Jvm.MethodName)) ∈ lw_tbl := lw_at lw_m1 224 rfl
theorem q245 : (Jvm.Cond.instanceMethod ({ cls := "ParagraphBreakerModel", name := "length", desc := "(II)I" } : Jvm.MethodName)) ∈ lw_all := lw_g (lw_at lw_m1 225 rfl) rfl
theorem q246 : (Jvm.Cond.code ({ cls := "ParagraphBreakerModel", name := "length", desc := "(II)I" } : Jvm.MethodName) prog_3_method_9_code (5 : Nat) (Option.some Jvm.ClassFile.FieldType.int)) ∈ lw_all := lw_g (lw_at lw_m1 226 rfl) rfl
theorem q247 : (Jvm.Cond.constant "ParagraphBreakerModel" (41 : Nat) (-1000000 : Int32)) ∈ lw_all := lw_g (lw_at lw_m1 227 rfl) rfl
theorem q248 : (Jvm.Cond.methodLink "ParagraphBreakerModel" (53 : Nat) ({ cls := "ParagraphBreakerModel", name := "before", desc := "(II)Z" } : Jvm.MethodName)) ∈ lw_all := lw_g (lw_at lw_m1 228 rfl) rfl
theorem q249 : (Jvm.Cond.privateMethod ({ cls := "ParagraphBreakerModel", name := "before", desc := "(II)Z" } : Jvm.MethodName)) ∈ lw_tbl := lw_at lw_m1 229 rfl
theorem q250 : (Jvm.Cond.instanceMethod ({ cls := "ParagraphBreakerModel", name := "before", desc := "(II)Z" } : Jvm.MethodName)) ∈ lw_all := lw_g (lw_at lw_m1 230 rfl) rfl
theorem q251 : (Jvm.Cond.code ({ cls := "ParagraphBreakerModel", name := "before", desc := "(II)Z" } : Jvm.MethodName) prog_3_method_14_code (6 : Nat) (Option.some Jvm.ClassFile.FieldType.boolean)) ∈ lw_all := lw_g (lw_at lw_m1 231 rfl) rfl
theorem q252 : (Jvm.Cond.methodLink "ParagraphBreakerModel" (42 : Nat) ({ cls := "ParagraphBreakerModel", name := "count", desc := "(I)I" } : Jvm.MethodName)) ∈ lw_all := lw_g (lw_at lw_m1 232 rfl) rfl
theorem q253 : (Jvm.Cond.privateMethod ({ cls := "ParagraphBreakerModel", name := "count", desc := "(I)I" } : Jvm.MethodName)) ∈ lw_tbl := lw_at lw_m1 233 rfl
theorem q254 : (Jvm.Cond.instanceMethod ({ cls := "ParagraphBreakerModel", name := "count", desc := "(I)I" } : Jvm.MethodName)) ∈ lw_all := lw_g (lw_at lw_m1 234 rfl) rfl
theorem q255 : (Jvm.Cond.code ({ cls := "ParagraphBreakerModel", name := "count", desc := "(I)I" } : Jvm.MethodName) prog_3_method_13_code (4 : Nat) (Option.some Jvm.ClassFile.FieldType.int)) ∈ lw_all := lw_g (lw_at lw_m1 235 rfl) rfl
theorem q257 : (Jvm.Cond.instanceMethod ({ cls := "ParagraphBreakerModel", name := "lines", desc := "()I" } : Jvm.MethodName)) ∈ lw_all := lw_g (lw_at lw_m1 237 rfl) rfl
theorem q258 : (Jvm.Cond.selects "ParagraphBreakerModel" ({ cls := "ParagraphBreakerModel", name := "lines", desc := "()I" } : Jvm.MethodName) ({ cls := "ParagraphBreakerModel", name := "lines", desc := "()I" } : Jvm.MethodName)) ∈ lw_all := lw_g (lw_at lw_m1 238 rfl) rfl
theorem q259 : (Jvm.Cond.code ({ cls := "ParagraphBreakerModel", name := "lines", desc := "()I" } : Jvm.MethodName) prog_3_method_17_code (2 : Nat) (Option.some Jvm.ClassFile.FieldType.int)) ∈ lw_all := lw_g (lw_at lw_m1 239 rfl) rfl
theorem q261 : (Jvm.Cond.instanceMethod ({ cls := "ParagraphBreakerModel", name := "lineOf", desc := "(I)I" } : Jvm.MethodName)) ∈ lw_all := lw_g (lw_at lw_m2 1 rfl) rfl
theorem q262 : (Jvm.Cond.selects "ParagraphBreakerModel" ({ cls := "ParagraphBreakerModel", name := "lineOf", desc := "(I)I" } : Jvm.MethodName) ({ cls := "ParagraphBreakerModel", name := "lineOf", desc := "(I)I" } : Jvm.MethodName)) ∈ lw_all := lw_g (lw_at lw_m2 2 rfl) rfl
theorem q263 : (Jvm.Cond.code ({ cls := "ParagraphBreakerModel", name := "lineOf", desc := "(I)I" } : Jvm.MethodName) prog_3_method_18_code (5 : Nat) (Option.some Jvm.ClassFile.FieldType.int)) ∈ lw_all := lw_g (lw_at lw_m2 3 rfl) rfl
theorem q265 : (Jvm.Cond.instanceMethod ({ cls := "ParagraphBreakerModel", name := "endOf", desc := "(I)I" } : Jvm.MethodName)) ∈ lw_all := lw_g (lw_at lw_m2 5 rfl) rfl
theorem q266 : (Jvm.Cond.selects "ParagraphBreakerModel" ({ cls := "ParagraphBreakerModel", name := "endOf", desc := "(I)I" } : Jvm.MethodName) ({ cls := "ParagraphBreakerModel", name := "endOf", desc := "(I)I" } : Jvm.MethodName)) ∈ lw_all := lw_g (lw_at lw_m2 6 rfl) rfl
theorem q267 : (Jvm.Cond.code ({ cls := "ParagraphBreakerModel", name := "endOf", desc := "(I)I" } : Jvm.MethodName) prog_3_method_19_code (5 : Nat) (Option.some Jvm.ClassFile.FieldType.int)) ∈ lw_all := lw_g (lw_at lw_m2 7 rfl) rfl
theorem q269 : (Jvm.Cond.instanceMethod ({ cls := "ParagraphBreakerModel", name := "lengthOf", desc := "(I)I" } : Jvm.MethodName)) ∈ lw_all := lw_g (lw_at lw_m2 9 rfl) rfl
theorem q270 : (Jvm.Cond.selects "ParagraphBreakerModel" ({ cls := "ParagraphBreakerModel", name := "lengthOf", desc := "(I)I" } : Jvm.MethodName) ({ cls := "ParagraphBreakerModel", name := "lengthOf", desc := "(I)I" } : Jvm.MethodName)) ∈ lw_all := lw_g (lw_at lw_m2 10 rfl) rfl
theorem q271 : (Jvm.Cond.code ({ cls := "ParagraphBreakerModel", name := "lengthOf", desc := "(I)I" } : Jvm.MethodName) prog_3_method_20_code (4 : Nat) (Option.some Jvm.ClassFile.FieldType.int)) ∈ lw_all := lw_g (lw_at lw_m2 11 rfl) rfl
theorem q272 : (Jvm.Cond.methodLink "ParagraphBreakerModel" (59 : Nat) ({ cls := "ParagraphBreakerModel", name := "endOf", desc := "(I)I" } : Jvm.MethodName)) ∈ lw_all := lw_g (lw_at lw_m2 12 rfl) rfl
theorem q274 : (Jvm.Cond.instanceMethod ({ cls := "ParagraphBreakerModel", name := "costWith", desc := "(I)I" } : Jvm.MethodName)) ∈ lw_all := lw_g (lw_at lw_m2 14 rfl) rfl
theorem q275 : (Jvm.Cond.selects "ParagraphBreakerModel" ({ cls := "ParagraphBreakerModel", name := "costWith", desc := "(I)I" } : Jvm.MethodName) ({ cls := "ParagraphBreakerModel", name := "costWith", desc := "(I)I" } : Jvm.MethodName)) ∈ lw_all := lw_g (lw_at lw_m2 15 rfl) rfl
theorem q276 : (Jvm.Cond.code ({ cls := "ParagraphBreakerModel", name := "costWith", desc := "(I)I" } : Jvm.MethodName) prog_3_method_21_code (5 : Nat) (Option.some Jvm.ClassFile.FieldType.int)) ∈ lw_all := lw_g (lw_at lw_m2 16 rfl) rfl
theorem q278 : (Jvm.Cond.instanceMethod ({ cls := "ParagraphBreakerModel", name := "costBreaking", desc := "(I)I" } : Jvm.MethodName)) ∈ lw_all := lw_g (lw_at lw_m2 18 rfl) rfl
theorem q279 : (Jvm.Cond.selects "ParagraphBreakerModel" ({ cls := "ParagraphBreakerModel", name := "costBreaking", desc := "(I)I" } : Jvm.MethodName) ({ cls := "ParagraphBreakerModel", name := "costBreaking", desc := "(I)I" } : Jvm.MethodName)) ∈ lw_all := lw_g (lw_at lw_m2 19 rfl) rfl
theorem q280 : (Jvm.Cond.code ({ cls := "ParagraphBreakerModel", name := "costBreaking", desc := "(I)I" } : Jvm.MethodName) prog_3_method_22_code (3 : Nat) (Option.some Jvm.ClassFile.FieldType.int)) ∈ lw_all := lw_g (lw_at lw_m2 20 rfl) rfl
theorem q282 : (Jvm.Cond.instanceMethod ({ cls := "ParagraphBreakerModel", name := "costKeeping", desc := "(I)I" } : Jvm.MethodName)) ∈ lw_all := lw_g (lw_at lw_m2 22 rfl) rfl
theorem q283 : (Jvm.Cond.selects "ParagraphBreakerModel" ({ cls := "ParagraphBreakerModel", name := "costKeeping", desc := "(I)I" } : Jvm.MethodName) ({ cls := "ParagraphBreakerModel", name := "costKeeping", desc := "(I)I" } : Jvm.MethodName)) ∈ lw_all := lw_g (lw_at lw_m2 23 rfl) rfl
theorem q284 : (Jvm.Cond.code ({ cls := "ParagraphBreakerModel", name := "costKeeping", desc := "(I)I" } : Jvm.MethodName) prog_3_method_23_code (3 : Nat) (Option.some Jvm.ClassFile.FieldType.int)) ∈ lw_all := lw_g (lw_at lw_m2 24 rfl) rfl
theorem q286 : (Jvm.Cond.instanceMethod ({ cls := "ParagraphBreakerModel", name := "choices", desc := "()I" } : Jvm.MethodName)) ∈ lw_all := lw_g (lw_at lw_m2 26 rfl) rfl
theorem q287 : (Jvm.Cond.selects "ParagraphBreakerModel" ({ cls := "ParagraphBreakerModel", name := "choices", desc := "()I" } : Jvm.MethodName) ({ cls := "ParagraphBreakerModel", name := "choices", desc := "()I" } : Jvm.MethodName)) ∈ lw_all := lw_g (lw_at lw_m2 27 rfl) rfl
theorem q288 : (Jvm.Cond.code ({ cls := "ParagraphBreakerModel", name := "choices", desc := "()I" } : Jvm.MethodName) prog_3_method_24_code (4 : Nat) (Option.some Jvm.ClassFile.FieldType.int)) ∈ lw_all := lw_g (lw_at lw_m2 28 rfl) rfl
theorem q289 : (Jvm.Cond.methodLink "ParagraphBreakerModel" (62 : Nat) ({ cls := "ParagraphBreakerModel", name := "cost", desc := "()I" } : Jvm.MethodName)) ∈ lw_all := lw_g (lw_at lw_m2 29 rfl) rfl
theorem in_X2 : ∀ w ∈ wsX20, w ∈ lw_all := lw_in wsX20 [184, 186, 188, 190, 192] (by decide +kernel) (by decide +kernel)

theorem dX2_init_0 : decode cX2_init 0 = .ok (.aload_n 0, 1) := by decide +kernel
theorem dX2_init_1 : decode cX2_init 1 = .ok (.invokespecial 1, 3) := by decide +kernel
theorem dX2_init_4 : decode cX2_init 4 = .ok (.aload_n 0, 1) := by decide +kernel
theorem dX2_init_5 : decode cX2_init 5 = .ok (.bipush 10, 2) := by decide +kernel
theorem dX2_init_7 : decode cX2_init 7 = .ok (.newarray .int, 2) := by decide +kernel
theorem dX2_init_9 : decode cX2_init 9 = .ok (.putfield 7, 3) := by decide +kernel
theorem dX2_init_12 : decode cX2_init 12 = .ok (.aload_n 0, 1) := by decide +kernel
theorem dX2_init_13 : decode cX2_init 13 = .ok (.bipush 10, 2) := by decide +kernel
theorem dX2_init_15 : decode cX2_init 15 = .ok (.newarray .int, 2) := by decide +kernel
theorem dX2_init_17 : decode cX2_init 17 = .ok (.putfield 13, 3) := by decide +kernel
theorem dX2_init_20 : decode cX2_init 20 = .ok (.aload_n 0, 1) := by decide +kernel
theorem dX2_init_21 : decode cX2_init 21 = .ok (.iload_n 1, 1) := by decide +kernel
theorem dX2_init_22 : decode cX2_init 22 = .ok (.iconst 5, 1) := by decide +kernel
theorem dX2_init_23 : decode cX2_init 23 = .ok (.if_icmp .ge 7, 3) := by decide +kernel
theorem dX2_init_26 : decode cX2_init 26 = .ok (.iconst 5, 1) := by decide +kernel
theorem dX2_init_27 : decode cX2_init 27 = .ok (.goto 15, 3) := by decide +kernel
theorem dX2_init_30 : decode cX2_init 30 = .ok (.iload_n 1, 1) := by decide +kernel
theorem dX2_init_31 : decode cX2_init 31 = .ok (.bipush 60, 2) := by decide +kernel
theorem dX2_init_33 : decode cX2_init 33 = .ok (.if_icmp .le 8, 3) := by decide +kernel
theorem dX2_init_36 : decode cX2_init 36 = .ok (.bipush 60, 2) := by decide +kernel
theorem dX2_init_38 : decode cX2_init 38 = .ok (.goto 4, 3) := by decide +kernel
theorem dX2_init_41 : decode cX2_init 41 = .ok (.iload_n 1, 1) := by decide +kernel
theorem dX2_init_42 : decode cX2_init 42 = .ok (.putfield 16, 3) := by decide +kernel
theorem dX2_init_45 : decode cX2_init 45 = .ok (.aload_n 0, 1) := by decide +kernel
theorem dX2_init_46 : decode cX2_init 46 = .ok (.iload_n 2, 1) := by decide +kernel
theorem dX2_init_47 : decode cX2_init 47 = .ok (.ifCond .ge 7, 3) := by decide +kernel
theorem dX2_init_50 : decode cX2_init 50 = .ok (.iconst 0, 1) := by decide +kernel
theorem dX2_init_51 : decode cX2_init 51 = .ok (.goto 15, 3) := by decide +kernel
theorem dX2_init_54 : decode cX2_init 54 = .ok (.iload_n 2, 1) := by decide +kernel
theorem dX2_init_55 : decode cX2_init 55 = .ok (.bipush 100, 2) := by decide +kernel
theorem dX2_init_57 : decode cX2_init 57 = .ok (.if_icmp .le 8, 3) := by decide +kernel
theorem dX2_init_60 : decode cX2_init 60 = .ok (.bipush 100, 2) := by decide +kernel
theorem dX2_init_62 : decode cX2_init 62 = .ok (.goto 4, 3) := by decide +kernel
theorem dX2_init_65 : decode cX2_init 65 = .ok (.iload_n 2, 1) := by decide +kernel
theorem dX2_init_66 : decode cX2_init 66 = .ok (.putfield 20, 3) := by decide +kernel
theorem dX2_init_69 : decode cX2_init 69 = .ok (.return_, 1) := by decide +kernel
theorem dX2_word_0 : decode cX2_word 0 = .ok (.aload_n 0, 1) := by decide +kernel
theorem dX2_word_1 : decode cX2_word 1 = .ok (.iload_n 1, 1) := by decide +kernel
theorem dX2_word_2 : decode cX2_word 2 = .ok (.iload_n 2, 1) := by decide +kernel
theorem dX2_word_3 : decode cX2_word 3 = .ok (.invokevirtual 23, 3) := by decide +kernel
theorem dX2_word_6 : decode cX2_word 6 = .ok (.ifCond .ne 5, 3) := by decide +kernel
theorem dX2_word_9 : decode cX2_word 9 = .ok (.iconst (-1), 1) := by decide +kernel
theorem dX2_word_10 : decode cX2_word 10 = .ok (.ireturn, 1) := by decide +kernel
theorem dX2_word_11 : decode cX2_word 11 = .ok (.aload_n 0, 1) := by decide +kernel
theorem dX2_word_12 : decode cX2_word 12 = .ok (.getfield 27, 3) := by decide +kernel
theorem dX2_word_15 : decode cX2_word 15 = .ok (.bipush 10, 2) := by decide +kernel
theorem dX2_word_17 : decode cX2_word 17 = .ok (.if_icmp .lt 6, 3) := by decide +kernel
theorem dX2_word_20 : decode cX2_word 20 = .ok (.bipush (-2), 2) := by decide +kernel
theorem dX2_word_22 : decode cX2_word 22 = .ok (.ireturn, 1) := by decide +kernel
theorem dX2_word_23 : decode cX2_word 23 = .ok (.aload_n 0, 1) := by decide +kernel
theorem dX2_word_24 : decode cX2_word 24 = .ok (.getfield 7, 3) := by decide +kernel
theorem dX2_word_27 : decode cX2_word 27 = .ok (.aload_n 0, 1) := by decide +kernel
theorem dX2_word_28 : decode cX2_word 28 = .ok (.getfield 27, 3) := by decide +kernel
theorem dX2_word_31 : decode cX2_word 31 = .ok (.iload_n 1, 1) := by decide +kernel
theorem dX2_word_32 : decode cX2_word 32 = .ok (.iastore, 1) := by decide +kernel
theorem dX2_word_33 : decode cX2_word 33 = .ok (.aload_n 0, 1) := by decide +kernel
theorem dX2_word_34 : decode cX2_word 34 = .ok (.getfield 13, 3) := by decide +kernel
theorem dX2_word_37 : decode cX2_word 37 = .ok (.aload_n 0, 1) := by decide +kernel
theorem dX2_word_38 : decode cX2_word 38 = .ok (.getfield 27, 3) := by decide +kernel
theorem dX2_word_41 : decode cX2_word 41 = .ok (.iload_n 2, 1) := by decide +kernel
theorem dX2_word_42 : decode cX2_word 42 = .ok (.iastore, 1) := by decide +kernel
theorem dX2_word_43 : decode cX2_word 43 = .ok (.aload_n 0, 1) := by decide +kernel
theorem dX2_word_44 : decode cX2_word 44 = .ok (.dup, 1) := by decide +kernel
theorem dX2_word_45 : decode cX2_word 45 = .ok (.getfield 27, 3) := by decide +kernel
theorem dX2_word_48 : decode cX2_word 48 = .ok (.iconst 1, 1) := by decide +kernel
theorem dX2_word_49 : decode cX2_word 49 = .ok (.iadd, 1) := by decide +kernel
theorem dX2_word_50 : decode cX2_word 50 = .ok (.putfield 27, 3) := by decide +kernel
theorem dX2_word_53 : decode cX2_word 53 = .ok (.aload_n 0, 1) := by decide +kernel
theorem dX2_word_54 : decode cX2_word 54 = .ok (.getfield 27, 3) := by decide +kernel
theorem dX2_word_57 : decode cX2_word 57 = .ok (.iconst 1, 1) := by decide +kernel
theorem dX2_word_58 : decode cX2_word 58 = .ok (.isub, 1) := by decide +kernel
theorem dX2_word_59 : decode cX2_word 59 = .ok (.ireturn, 1) := by decide +kernel
theorem dX2_good_0 : decode cX2_good 0 = .ok (.iload_n 1, 1) := by decide +kernel
theorem dX2_good_1 : decode cX2_good 1 = .ok (.iconst 1, 1) := by decide +kernel
theorem dX2_good_2 : decode cX2_good 2 = .ok (.if_icmp .lt 25, 3) := by decide +kernel
theorem dX2_good_5 : decode cX2_good 5 = .ok (.iload_n 1, 1) := by decide +kernel
theorem dX2_good_6 : decode cX2_good 6 = .ok (.bipush 12, 2) := by decide +kernel
theorem dX2_good_8 : decode cX2_good 8 = .ok (.if_icmp .gt 19, 3) := by decide +kernel
theorem dX2_good_11 : decode cX2_good 11 = .ok (.iload_n 2, 1) := by decide +kernel
theorem dX2_good_12 : decode cX2_good 12 = .ok (.bipush (-40), 2) := by decide +kernel
theorem dX2_good_14 : decode cX2_good 14 = .ok (.if_icmp .lt 13, 3) := by decide +kernel
theorem dX2_good_17 : decode cX2_good 17 = .ok (.iload_n 2, 1) := by decide +kernel
theorem dX2_good_18 : decode cX2_good 18 = .ok (.bipush 40, 2) := by decide +kernel
theorem dX2_good_20 : decode cX2_good 20 = .ok (.if_icmp .gt 7, 3) := by decide +kernel
theorem dX2_good_23 : decode cX2_good 23 = .ok (.iconst 1, 1) := by decide +kernel
theorem dX2_good_24 : decode cX2_good 24 = .ok (.goto 4, 3) := by decide +kernel
theorem dX2_good_27 : decode cX2_good 27 = .ok (.iconst 0, 1) := by decide +kernel
theorem dX2_good_28 : decode cX2_good 28 = .ok (.ireturn, 1) := by decide +kernel
theorem dX2_back_0 : decode cX2_back 0 = .ok (.aload_n 0, 1) := by decide +kernel
theorem dX2_back_1 : decode cX2_back 1 = .ok (.getfield 27, 3) := by decide +kernel
theorem dX2_back_4 : decode cX2_back 4 = .ok (.ifCond .ne 5, 3) := by decide +kernel
theorem dX2_back_7 : decode cX2_back 7 = .ok (.iconst (-1), 1) := by decide +kernel
theorem dX2_back_8 : decode cX2_back 8 = .ok (.ireturn, 1) := by decide +kernel
theorem dX2_back_9 : decode cX2_back 9 = .ok (.aload_n 0, 1) := by decide +kernel
theorem dX2_back_10 : decode cX2_back 10 = .ok (.dup, 1) := by decide +kernel
theorem dX2_back_11 : decode cX2_back 11 = .ok (.getfield 27, 3) := by decide +kernel
theorem dX2_back_14 : decode cX2_back 14 = .ok (.iconst 1, 1) := by decide +kernel
theorem dX2_back_15 : decode cX2_back 15 = .ok (.isub, 1) := by decide +kernel
theorem dX2_back_16 : decode cX2_back 16 = .ok (.putfield 27, 3) := by decide +kernel
theorem dX2_back_19 : decode cX2_back 19 = .ok (.aload_n 0, 1) := by decide +kernel
theorem dX2_back_20 : decode cX2_back 20 = .ok (.getfield 27, 3) := by decide +kernel
theorem dX2_back_23 : decode cX2_back 23 = .ok (.ireturn, 1) := by decide +kernel
theorem dX2_change_0 : decode cX2_change 0 = .ok (.aload_n 0, 1) := by decide +kernel
theorem dX2_change_1 : decode cX2_change 1 = .ok (.iload_n 1, 1) := by decide +kernel
theorem dX2_change_2 : decode cX2_change 2 = .ok (.invokevirtual 30, 3) := by decide +kernel
theorem dX2_change_5 : decode cX2_change 5 = .ok (.ifCond .eq 12, 3) := by decide +kernel
theorem dX2_change_8 : decode cX2_change 8 = .ok (.aload_n 0, 1) := by decide +kernel
theorem dX2_change_9 : decode cX2_change 9 = .ok (.iload_n 2, 1) := by decide +kernel
theorem dX2_change_10 : decode cX2_change 10 = .ok (.iload_n 3, 1) := by decide +kernel
theorem dX2_change_11 : decode cX2_change 11 = .ok (.invokevirtual 23, 3) := by decide +kernel
theorem dX2_change_14 : decode cX2_change 14 = .ok (.ifCond .ne 5, 3) := by decide +kernel
theorem dX2_change_17 : decode cX2_change 17 = .ok (.iconst 0, 1) := by decide +kernel
theorem dX2_change_18 : decode cX2_change 18 = .ok (.ireturn, 1) := by decide +kernel
theorem dX2_change_19 : decode cX2_change 19 = .ok (.aload_n 0, 1) := by decide +kernel
theorem dX2_change_20 : decode cX2_change 20 = .ok (.getfield 7, 3) := by decide +kernel
theorem dX2_change_23 : decode cX2_change 23 = .ok (.iload_n 1, 1) := by decide +kernel
theorem dX2_change_24 : decode cX2_change 24 = .ok (.iload_n 2, 1) := by decide +kernel
theorem dX2_change_25 : decode cX2_change 25 = .ok (.iastore, 1) := by decide +kernel
theorem dX2_change_26 : decode cX2_change 26 = .ok (.aload_n 0, 1) := by decide +kernel
theorem dX2_change_27 : decode cX2_change 27 = .ok (.getfield 13, 3) := by decide +kernel
theorem dX2_change_30 : decode cX2_change 30 = .ok (.iload_n 1, 1) := by decide +kernel
theorem dX2_change_31 : decode cX2_change 31 = .ok (.iload_n 3, 1) := by decide +kernel
theorem dX2_change_32 : decode cX2_change 32 = .ok (.iastore, 1) := by decide +kernel
theorem dX2_change_33 : decode cX2_change 33 = .ok (.iconst 1, 1) := by decide +kernel
theorem dX2_change_34 : decode cX2_change 34 = .ok (.ireturn, 1) := by decide +kernel
theorem dX2_is_0 : decode cX2_is 0 = .ok (.iload_n 1, 1) := by decide +kernel
theorem dX2_is_1 : decode cX2_is 1 = .ok (.ifCond .lt 15, 3) := by decide +kernel
theorem dX2_is_4 : decode cX2_is 4 = .ok (.iload_n 1, 1) := by decide +kernel
theorem dX2_is_5 : decode cX2_is 5 = .ok (.aload_n 0, 1) := by decide +kernel
theorem dX2_is_6 : decode cX2_is 6 = .ok (.getfield 27, 3) := by decide +kernel
theorem dX2_is_9 : decode cX2_is 9 = .ok (.if_icmp .ge 7, 3) := by decide +kernel
theorem dX2_is_12 : decode cX2_is 12 = .ok (.iconst 1, 1) := by decide +kernel
theorem dX2_is_13 : decode cX2_is 13 = .ok (.goto 4, 3) := by decide +kernel
theorem dX2_is_16 : decode cX2_is 16 = .ok (.iconst 0, 1) := by decide +kernel
theorem dX2_is_17 : decode cX2_is 17 = .ok (.ireturn, 1) := by decide +kernel
theorem dX2_setWidth_0 : decode cX2_setWidth 0 = .ok (.iload_n 1, 1) := by decide +kernel
theorem dX2_setWidth_1 : decode cX2_setWidth 1 = .ok (.iconst 5, 1) := by decide +kernel
theorem dX2_setWidth_2 : decode cX2_setWidth 2 = .ok (.if_icmp .lt 9, 3) := by decide +kernel
theorem dX2_setWidth_5 : decode cX2_setWidth 5 = .ok (.iload_n 1, 1) := by decide +kernel
theorem dX2_setWidth_6 : decode cX2_setWidth 6 = .ok (.bipush 60, 2) := by decide +kernel
theorem dX2_setWidth_8 : decode cX2_setWidth 8 = .ok (.if_icmp .le 5, 3) := by decide +kernel
theorem dX2_setWidth_11 : decode cX2_setWidth 11 = .ok (.iconst 0, 1) := by decide +kernel
theorem dX2_setWidth_12 : decode cX2_setWidth 12 = .ok (.ireturn, 1) := by decide +kernel
theorem dX2_setWidth_13 : decode cX2_setWidth 13 = .ok (.aload_n 0, 1) := by decide +kernel
theorem dX2_setWidth_14 : decode cX2_setWidth 14 = .ok (.iload_n 1, 1) := by decide +kernel
theorem dX2_setWidth_15 : decode cX2_setWidth 15 = .ok (.putfield 16, 3) := by decide +kernel
theorem dX2_setWidth_18 : decode cX2_setWidth 18 = .ok (.iconst 1, 1) := by decide +kernel
theorem dX2_setWidth_19 : decode cX2_setWidth 19 = .ok (.ireturn, 1) := by decide +kernel
theorem dX2_words_0 : decode cX2_words 0 = .ok (.aload_n 0, 1) := by decide +kernel
theorem dX2_words_1 : decode cX2_words 1 = .ok (.getfield 27, 3) := by decide +kernel
theorem dX2_words_4 : decode cX2_words 4 = .ok (.ireturn, 1) := by decide +kernel
theorem dX2_cost_0 : decode cX2_cost 0 = .ok (.aload_n 0, 1) := by decide +kernel
theorem dX2_cost_1 : decode cX2_cost 1 = .ok (.iconst 0, 1) := by decide +kernel
theorem dX2_cost_2 : decode cX2_cost 2 = .ok (.iconst 0, 1) := by decide +kernel
theorem dX2_cost_3 : decode cX2_cost 3 = .ok (.invokevirtual 56, 3) := by decide +kernel
theorem dX2_cost_6 : decode cX2_cost 6 = .ok (.istore_n 1, 1) := by decide +kernel
theorem dX2_cost_7 : decode cX2_cost 7 = .ok (.iload_n 1, 1) := by decide +kernel
theorem dX2_cost_8 : decode cX2_cost 8 = .ok (.ifCond .ge 8, 3) := by decide +kernel
theorem dX2_cost_11 : decode cX2_cost 11 = .ok (.ldc 41, 2) := by decide +kernel
theorem dX2_cost_13 : decode cX2_cost 13 = .ok (.goto 8, 3) := by decide +kernel
theorem dX2_cost_16 : decode cX2_cost 16 = .ok (.aload_n 0, 1) := by decide +kernel
theorem dX2_cost_17 : decode cX2_cost 17 = .ok (.iload_n 1, 1) := by decide +kernel
theorem dX2_cost_18 : decode cX2_cost 18 = .ok (.invokevirtual 50, 3) := by decide +kernel
theorem dX2_cost_21 : decode cX2_cost 21 = .ok (.ireturn, 1) := by decide +kernel
theorem dX2_best_0 : decode cX2_best 0 = .ok (.iconst (-1), 1) := by decide +kernel
theorem dX2_best_1 : decode cX2_best 1 = .ok (.istore_n 3, 1) := by decide +kernel
theorem dX2_best_2 : decode cX2_best 2 = .ok (.iconst 0, 1) := by decide +kernel
theorem dX2_best_3 : decode cX2_best 3 = .ok (.istore 4, 2) := by decide +kernel
theorem dX2_best_5 : decode cX2_best 5 = .ok (.iconst 0, 1) := by decide +kernel
theorem dX2_best_6 : decode cX2_best 6 = .ok (.istore 5, 2) := by decide +kernel
theorem dX2_best_8 : decode cX2_best 8 = .ok (.iload 5, 2) := by decide +kernel
theorem dX2_best_10 : decode cX2_best 10 = .ok (.aload_n 0, 1) := by decide +kernel
theorem dX2_best_11 : decode cX2_best 11 = .ok (.invokevirtual 46, 3) := by decide +kernel
theorem dX2_best_14 : decode cX2_best 14 = .ok (.if_icmp .ge 80, 3) := by decide +kernel
theorem dX2_best_17 : decode cX2_best 17 = .ok (.iload_n 1, 1) := by decide +kernel
theorem dX2_best_18 : decode cX2_best 18 = .ok (.iload 5, 2) := by decide +kernel
theorem dX2_best_20 : decode cX2_best 20 = .ok (.iconst (-1), 1) := by decide +kernel
theorem dX2_best_21 : decode cX2_best 21 = .ok (.ixor, 1) := by decide +kernel
theorem dX2_best_22 : decode cX2_best 22 = .ok (.iand, 1) := by decide +kernel
theorem dX2_best_23 : decode cX2_best 23 = .ok (.ifCond .ne 19, 3) := by decide +kernel
theorem dX2_best_26 : decode cX2_best 26 = .ok (.iload_n 2, 1) := by decide +kernel
theorem dX2_best_27 : decode cX2_best 27 = .ok (.iload 5, 2) := by decide +kernel
theorem dX2_best_29 : decode cX2_best 29 = .ok (.iand, 1) := by decide +kernel
theorem dX2_best_30 : decode cX2_best 30 = .ok (.ifCond .ne 12, 3) := by decide +kernel
theorem dX2_best_33 : decode cX2_best 33 = .ok (.aload_n 0, 1) := by decide +kernel
theorem dX2_best_34 : decode cX2_best 34 = .ok (.iload 5, 2) := by decide +kernel
theorem dX2_best_36 : decode cX2_best 36 = .ok (.invokevirtual 50, 3) := by decide +kernel
theorem dX2_best_39 : decode cX2_best 39 = .ok (.goto 5, 3) := by decide +kernel
theorem dX2_best_42 : decode cX2_best 42 = .ok (.ldc 41, 2) := by decide +kernel
theorem dX2_best_44 : decode cX2_best 44 = .ok (.istore 6, 2) := by decide +kernel
theorem dX2_best_46 : decode cX2_best 46 = .ok (.iload 6, 2) := by decide +kernel
theorem dX2_best_48 : decode cX2_best 48 = .ok (.ldc 41, 2) := by decide +kernel
theorem dX2_best_50 : decode cX2_best 50 = .ok (.if_icmp .eq 38, 3) := by decide +kernel
theorem dX2_best_53 : decode cX2_best 53 = .ok (.iload_n 3, 1) := by decide +kernel
theorem dX2_best_54 : decode cX2_best 54 = .ok (.ifCond .lt 27, 3) := by decide +kernel
theorem dX2_best_57 : decode cX2_best 57 = .ok (.iload 6, 2) := by decide +kernel
theorem dX2_best_59 : decode cX2_best 59 = .ok (.iload 4, 2) := by decide +kernel
theorem dX2_best_61 : decode cX2_best 61 = .ok (.if_icmp .lt 20, 3) := by decide +kernel
theorem dX2_best_64 : decode cX2_best 64 = .ok (.iload 6, 2) := by decide +kernel
theorem dX2_best_66 : decode cX2_best 66 = .ok (.iload 4, 2) := by decide +kernel
theorem dX2_best_68 : decode cX2_best 68 = .ok (.if_icmp .ne 20, 3) := by decide +kernel
theorem dX2_best_71 : decode cX2_best 71 = .ok (.aload_n 0, 1) := by decide +kernel
theorem dX2_best_72 : decode cX2_best 72 = .ok (.iload 5, 2) := by decide +kernel
theorem dX2_best_74 : decode cX2_best 74 = .ok (.iload_n 3, 1) := by decide +kernel
theorem dX2_best_75 : decode cX2_best 75 = .ok (.invokevirtual 53, 3) := by decide +kernel
theorem dX2_best_78 : decode cX2_best 78 = .ok (.ifCond .eq 10, 3) := by decide +kernel
theorem dX2_best_81 : decode cX2_best 81 = .ok (.iload 5, 2) := by decide +kernel
theorem dX2_best_83 : decode cX2_best 83 = .ok (.istore_n 3, 1) := by decide +kernel
theorem dX2_best_84 : decode cX2_best 84 = .ok (.iload 6, 2) := by decide +kernel
theorem dX2_best_86 : decode cX2_best 86 = .ok (.istore 4, 2) := by decide +kernel
theorem dX2_best_88 : decode cX2_best 88 = .ok (.iinc 5 1, 3) := by decide +kernel
theorem dX2_best_91 : decode cX2_best 91 = .ok (.goto (-83), 3) := by decide +kernel
theorem dX2_best_94 : decode cX2_best 94 = .ok (.iload_n 3, 1) := by decide +kernel
theorem dX2_best_95 : decode cX2_best 95 = .ok (.ireturn, 1) := by decide +kernel
theorem dX2_sets_0 : decode cX2_sets 0 = .ok (.aload_n 0, 1) := by decide +kernel
theorem dX2_sets_1 : decode cX2_sets 1 = .ok (.getfield 27, 3) := by decide +kernel
theorem dX2_sets_4 : decode cX2_sets 4 = .ok (.ifCond .ne 7, 3) := by decide +kernel
theorem dX2_sets_7 : decode cX2_sets 7 = .ok (.iconst 1, 1) := by decide +kernel
theorem dX2_sets_8 : decode cX2_sets 8 = .ok (.goto 11, 3) := by decide +kernel
theorem dX2_sets_11 : decode cX2_sets 11 = .ok (.iconst 1, 1) := by decide +kernel
theorem dX2_sets_12 : decode cX2_sets 12 = .ok (.aload_n 0, 1) := by decide +kernel
theorem dX2_sets_13 : decode cX2_sets 13 = .ok (.getfield 27, 3) := by decide +kernel
theorem dX2_sets_16 : decode cX2_sets 16 = .ok (.iconst 1, 1) := by decide +kernel
theorem dX2_sets_17 : decode cX2_sets 17 = .ok (.isub, 1) := by decide +kernel
theorem dX2_sets_18 : decode cX2_sets 18 = .ok (.ishl, 1) := by decide +kernel
theorem dX2_sets_19 : decode cX2_sets 19 = .ok (.ireturn, 1) := by decide +kernel
theorem dX2_costOf_0 : decode cX2_costOf 0 = .ok (.iconst 0, 1) := by decide +kernel
theorem dX2_costOf_1 : decode cX2_costOf 1 = .ok (.istore_n 2, 1) := by decide +kernel
theorem dX2_costOf_2 : decode cX2_costOf 2 = .ok (.iconst 0, 1) := by decide +kernel
theorem dX2_costOf_3 : decode cX2_costOf 3 = .ok (.istore_n 3, 1) := by decide +kernel
theorem dX2_costOf_4 : decode cX2_costOf 4 = .ok (.iconst 0, 1) := by decide +kernel
theorem dX2_costOf_5 : decode cX2_costOf 5 = .ok (.istore 4, 2) := by decide +kernel
theorem dX2_costOf_7 : decode cX2_costOf 7 = .ok (.iconst 0, 1) := by decide +kernel
theorem dX2_costOf_8 : decode cX2_costOf 8 = .ok (.istore 5, 2) := by decide +kernel
theorem dX2_costOf_10 : decode cX2_costOf 10 = .ok (.iload 5, 2) := by decide +kernel
theorem dX2_costOf_12 : decode cX2_costOf 12 = .ok (.aload_n 0, 1) := by decide +kernel
theorem dX2_costOf_13 : decode cX2_costOf 13 = .ok (.getfield 27, 3) := by decide +kernel
theorem dX2_costOf_16 : decode cX2_costOf 16 = .ok (.if_icmp .ge 131, 3) := by decide +kernel
theorem dX2_costOf_19 : decode cX2_costOf 19 = .ok (.iload_n 1, 1) := by decide +kernel
theorem dX2_costOf_20 : decode cX2_costOf 20 = .ok (.iload 5, 2) := by decide +kernel
theorem dX2_costOf_22 : decode cX2_costOf 22 = .ok (.ishr, 1) := by decide +kernel
theorem dX2_costOf_23 : decode cX2_costOf 23 = .ok (.iconst 1, 1) := by decide +kernel
theorem dX2_costOf_24 : decode cX2_costOf 24 = .ok (.iand, 1) := by decide +kernel
theorem dX2_costOf_25 : decode cX2_costOf 25 = .ok (.iconst 1, 1) := by decide +kernel
theorem dX2_costOf_26 : decode cX2_costOf 26 = .ok (.if_icmp .eq 14, 3) := by decide +kernel
theorem dX2_costOf_29 : decode cX2_costOf 29 = .ok (.iload 5, 2) := by decide +kernel
theorem dX2_costOf_31 : decode cX2_costOf 31 = .ok (.aload_n 0, 1) := by decide +kernel
theorem dX2_costOf_32 : decode cX2_costOf 32 = .ok (.getfield 27, 3) := by decide +kernel
theorem dX2_costOf_35 : decode cX2_costOf 35 = .ok (.iconst 1, 1) := by decide +kernel
theorem dX2_costOf_36 : decode cX2_costOf 36 = .ok (.isub, 1) := by decide +kernel
theorem dX2_costOf_37 : decode cX2_costOf 37 = .ok (.if_icmp .ne 104, 3) := by decide +kernel
theorem dX2_costOf_40 : decode cX2_costOf 40 = .ok (.aload_n 0, 1) := by decide +kernel
theorem dX2_costOf_41 : decode cX2_costOf 41 = .ok (.iload_n 3, 1) := by decide +kernel
theorem dX2_costOf_42 : decode cX2_costOf 42 = .ok (.iload 5, 2) := by decide +kernel
theorem dX2_costOf_44 : decode cX2_costOf 44 = .ok (.invokevirtual 38, 3) := by decide +kernel
theorem dX2_costOf_47 : decode cX2_costOf 47 = .ok (.istore 6, 2) := by decide +kernel
theorem dX2_costOf_49 : decode cX2_costOf 49 = .ok (.iload 6, 2) := by decide +kernel
theorem dX2_costOf_51 : decode cX2_costOf 51 = .ok (.ifCond .ge 6, 3) := by decide +kernel
theorem dX2_costOf_54 : decode cX2_costOf 54 = .ok (.ldc 41, 2) := by decide +kernel
theorem dX2_costOf_56 : decode cX2_costOf 56 = .ok (.ireturn, 1) := by decide +kernel
theorem dX2_costOf_57 : decode cX2_costOf 57 = .ok (.iload 5, 2) := by decide +kernel
theorem dX2_costOf_59 : decode cX2_costOf 59 = .ok (.aload_n 0, 1) := by decide +kernel
theorem dX2_costOf_60 : decode cX2_costOf 60 = .ok (.getfield 27, 3) := by decide +kernel
theorem dX2_costOf_63 : decode cX2_costOf 63 = .ok (.iconst 1, 1) := by decide +kernel
theorem dX2_costOf_64 : decode cX2_costOf 64 = .ok (.isub, 1) := by decide +kernel
theorem dX2_costOf_65 : decode cX2_costOf 65 = .ok (.if_icmp .ge 17, 3) := by decide +kernel
theorem dX2_costOf_68 : decode cX2_costOf 68 = .ok (.aload_n 0, 1) := by decide +kernel
theorem dX2_costOf_69 : decode cX2_costOf 69 = .ok (.getfield 13, 3) := by decide +kernel
theorem dX2_costOf_72 : decode cX2_costOf 72 = .ok (.iload 5, 2) := by decide +kernel
theorem dX2_costOf_74 : decode cX2_costOf 74 = .ok (.iaload, 1) := by decide +kernel
theorem dX2_costOf_75 : decode cX2_costOf 75 = .ok (.ifCond .le 7, 3) := by decide +kernel
theorem dX2_costOf_78 : decode cX2_costOf 78 = .ok (.iconst 1, 1) := by decide +kernel
theorem dX2_costOf_79 : decode cX2_costOf 79 = .ok (.goto 4, 3) := by decide +kernel
theorem dX2_costOf_82 : decode cX2_costOf 82 = .ok (.iconst 0, 1) := by decide +kernel
theorem dX2_costOf_83 : decode cX2_costOf 83 = .ok (.istore 7, 2) := by decide +kernel
theorem dX2_costOf_85 : decode cX2_costOf 85 = .ok (.iload_n 2, 1) := by decide +kernel
theorem dX2_costOf_86 : decode cX2_costOf 86 = .ok (.iload 6, 2) := by decide +kernel
theorem dX2_costOf_88 : decode cX2_costOf 88 = .ok (.iadd, 1) := by decide +kernel
theorem dX2_costOf_89 : decode cX2_costOf 89 = .ok (.iload 5, 2) := by decide +kernel
theorem dX2_costOf_91 : decode cX2_costOf 91 = .ok (.aload_n 0, 1) := by decide +kernel
theorem dX2_costOf_92 : decode cX2_costOf 92 = .ok (.getfield 27, 3) := by decide +kernel
theorem dX2_costOf_95 : decode cX2_costOf 95 = .ok (.iconst 1, 1) := by decide +kernel
theorem dX2_costOf_96 : decode cX2_costOf 96 = .ok (.isub, 1) := by decide +kernel
theorem dX2_costOf_97 : decode cX2_costOf 97 = .ok (.if_icmp .ge 13, 3) := by decide +kernel
theorem dX2_costOf_100 : decode cX2_costOf 100 = .ok (.aload_n 0, 1) := by decide +kernel
theorem dX2_costOf_101 : decode cX2_costOf 101 = .ok (.getfield 13, 3) := by decide +kernel
theorem dX2_costOf_104 : decode cX2_costOf 104 = .ok (.iload 5, 2) := by decide +kernel
theorem dX2_costOf_106 : decode cX2_costOf 106 = .ok (.iaload, 1) := by decide +kernel
theorem dX2_costOf_107 : decode cX2_costOf 107 = .ok (.goto 4, 3) := by decide +kernel
theorem dX2_costOf_110 : decode cX2_costOf 110 = .ok (.iconst 0, 1) := by decide +kernel
theorem dX2_costOf_111 : decode cX2_costOf 111 = .ok (.iadd, 1) := by decide +kernel
theorem dX2_costOf_112 : decode cX2_costOf 112 = .ok (.iload 4, 2) := by decide +kernel
theorem dX2_costOf_114 : decode cX2_costOf 114 = .ok (.ifCond .eq 15, 3) := by decide +kernel
theorem dX2_costOf_117 : decode cX2_costOf 117 = .ok (.iload 7, 2) := by decide +kernel
theorem dX2_costOf_119 : decode cX2_costOf 119 = .ok (.ifCond .eq 10, 3) := by decide +kernel
theorem dX2_costOf_122 : decode cX2_costOf 122 = .ok (.aload_n 0, 1) := by decide +kernel
theorem dX2_costOf_123 : decode cX2_costOf 123 = .ok (.getfield 20, 3) := by decide +kernel
theorem dX2_costOf_126 : decode cX2_costOf 126 = .ok (.goto 4, 3) := by decide +kernel
theorem dX2_costOf_129 : decode cX2_costOf 129 = .ok (.iconst 0, 1) := by decide +kernel
theorem dX2_costOf_130 : decode cX2_costOf 130 = .ok (.iadd, 1) := by decide +kernel
theorem dX2_costOf_131 : decode cX2_costOf 131 = .ok (.istore_n 2, 1) := by decide +kernel
theorem dX2_costOf_132 : decode cX2_costOf 132 = .ok (.iload 7, 2) := by decide +kernel
theorem dX2_costOf_134 : decode cX2_costOf 134 = .ok (.istore 4, 2) := by decide +kernel
theorem dX2_costOf_136 : decode cX2_costOf 136 = .ok (.iload 5, 2) := by decide +kernel
theorem dX2_costOf_138 : decode cX2_costOf 138 = .ok (.iconst 1, 1) := by decide +kernel
theorem dX2_costOf_139 : decode cX2_costOf 139 = .ok (.iadd, 1) := by decide +kernel
theorem dX2_costOf_140 : decode cX2_costOf 140 = .ok (.istore_n 3, 1) := by decide +kernel
theorem dX2_costOf_141 : decode cX2_costOf 141 = .ok (.iinc 5 1, 3) := by decide +kernel
theorem dX2_costOf_144 : decode cX2_costOf 144 = .ok (.goto (-134), 3) := by decide +kernel
theorem dX2_costOf_147 : decode cX2_costOf 147 = .ok (.iload_n 2, 1) := by decide +kernel
theorem dX2_costOf_148 : decode cX2_costOf 148 = .ok (.ireturn, 1) := by decide +kernel
theorem dX2_badness_0 : decode cX2_badness 0 = .ok (.aload_n 0, 1) := by decide +kernel
theorem dX2_badness_1 : decode cX2_badness 1 = .ok (.getfield 16, 3) := by decide +kernel
theorem dX2_badness_4 : decode cX2_badness 4 = .ok (.aload_n 0, 1) := by decide +kernel
theorem dX2_badness_5 : decode cX2_badness 5 = .ok (.iload_n 1, 1) := by decide +kernel
theorem dX2_badness_6 : decode cX2_badness 6 = .ok (.iload_n 2, 1) := by decide +kernel
theorem dX2_badness_7 : decode cX2_badness 7 = .ok (.invokevirtual 34, 3) := by decide +kernel
theorem dX2_badness_10 : decode cX2_badness 10 = .ok (.isub, 1) := by decide +kernel
theorem dX2_badness_11 : decode cX2_badness 11 = .ok (.istore_n 3, 1) := by decide +kernel
theorem dX2_badness_12 : decode cX2_badness 12 = .ok (.iload_n 3, 1) := by decide +kernel
theorem dX2_badness_13 : decode cX2_badness 13 = .ok (.iload_n 1, 1) := by decide +kernel
theorem dX2_badness_14 : decode cX2_badness 14 = .ok (.iload_n 2, 1) := by decide +kernel
theorem dX2_badness_15 : decode cX2_badness 15 = .ok (.isub, 1) := by decide +kernel
theorem dX2_badness_16 : decode cX2_badness 16 = .ok (.if_icmp .ge 5, 3) := by decide +kernel
theorem dX2_badness_19 : decode cX2_badness 19 = .ok (.iconst (-1), 1) := by decide +kernel
theorem dX2_badness_20 : decode cX2_badness 20 = .ok (.ireturn, 1) := by decide +kernel
theorem dX2_badness_21 : decode cX2_badness 21 = .ok (.iload_n 3, 1) := by decide +kernel
theorem dX2_badness_22 : decode cX2_badness 22 = .ok (.ifCond .ge 11, 3) := by decide +kernel
theorem dX2_badness_25 : decode cX2_badness 25 = .ok (.iload_n 3, 1) := by decide +kernel
theorem dX2_badness_26 : decode cX2_badness 26 = .ok (.iload_n 3, 1) := by decide +kernel
theorem dX2_badness_27 : decode cX2_badness 27 = .ok (.imul, 1) := by decide +kernel
theorem dX2_badness_28 : decode cX2_badness 28 = .ok (.iconst 3, 1) := by decide +kernel
theorem dX2_badness_29 : decode cX2_badness 29 = .ok (.imul, 1) := by decide +kernel
theorem dX2_badness_30 : decode cX2_badness 30 = .ok (.goto 20, 3) := by decide +kernel
end
section
set_option maxRecDepth 100000
theorem dX2_badness_33 : decode cX2_badness 33 = .ok (.iload_n 2, 1) := by decide +kernel
theorem dX2_badness_34 : decode cX2_badness 34 = .ok (.aload_n 0, 1) := by decide +kernel
theorem dX2_badness_35 : decode cX2_badness 35 = .ok (.getfield 27, 3) := by decide +kernel
theorem dX2_badness_38 : decode cX2_badness 38 = .ok (.iconst 1, 1) := by decide +kernel
theorem dX2_badness_39 : decode cX2_badness 39 = .ok (.isub, 1) := by decide +kernel
theorem dX2_badness_40 : decode cX2_badness 40 = .ok (.if_icmp .ne 7, 3) := by decide +kernel
theorem dX2_badness_43 : decode cX2_badness 43 = .ok (.iconst 0, 1) := by decide +kernel
theorem dX2_badness_44 : decode cX2_badness 44 = .ok (.goto 6, 3) := by decide +kernel
theorem dX2_badness_47 : decode cX2_badness 47 = .ok (.iload_n 3, 1) := by decide +kernel
theorem dX2_badness_48 : decode cX2_badness 48 = .ok (.iload_n 3, 1) := by decide +kernel
theorem dX2_badness_49 : decode cX2_badness 49 = .ok (.imul, 1) := by decide +kernel
theorem dX2_badness_50 : decode cX2_badness 50 = .ok (.ireturn, 1) := by decide +kernel
theorem dX2_length_0 : decode cX2_length 0 = .ok (.iconst 2, 1) := by decide +kernel
theorem dX2_length_1 : decode cX2_length 1 = .ok (.iload_n 2, 1) := by decide +kernel
theorem dX2_length_2 : decode cX2_length 2 = .ok (.iload_n 1, 1) := by decide +kernel
theorem dX2_length_3 : decode cX2_length 3 = .ok (.isub, 1) := by decide +kernel
theorem dX2_length_4 : decode cX2_length 4 = .ok (.imul, 1) := by decide +kernel
theorem dX2_length_5 : decode cX2_length 5 = .ok (.istore_n 3, 1) := by decide +kernel
theorem dX2_length_6 : decode cX2_length 6 = .ok (.iload_n 1, 1) := by decide +kernel
theorem dX2_length_7 : decode cX2_length 7 = .ok (.istore 4, 2) := by decide +kernel
theorem dX2_length_9 : decode cX2_length 9 = .ok (.iload 4, 2) := by decide +kernel
theorem dX2_length_11 : decode cX2_length 11 = .ok (.iload_n 2, 1) := by decide +kernel
theorem dX2_length_12 : decode cX2_length 12 = .ok (.if_icmp .gt 19, 3) := by decide +kernel
theorem dX2_length_15 : decode cX2_length 15 = .ok (.iload_n 3, 1) := by decide +kernel
theorem dX2_length_16 : decode cX2_length 16 = .ok (.aload_n 0, 1) := by decide +kernel
theorem dX2_length_17 : decode cX2_length 17 = .ok (.getfield 7, 3) := by decide +kernel
theorem dX2_length_20 : decode cX2_length 20 = .ok (.iload 4, 2) := by decide +kernel
theorem dX2_length_22 : decode cX2_length 22 = .ok (.iaload, 1) := by decide +kernel
theorem dX2_length_23 : decode cX2_length 23 = .ok (.iadd, 1) := by decide +kernel
theorem dX2_length_24 : decode cX2_length 24 = .ok (.istore_n 3, 1) := by decide +kernel
theorem dX2_length_25 : decode cX2_length 25 = .ok (.iinc 4 1, 3) := by decide +kernel
theorem dX2_length_28 : decode cX2_length 28 = .ok (.goto (-19), 3) := by decide +kernel
theorem dX2_length_31 : decode cX2_length 31 = .ok (.iload_n 3, 1) := by decide +kernel
theorem dX2_length_32 : decode cX2_length 32 = .ok (.ireturn, 1) := by decide +kernel
theorem dX2_before_0 : decode cX2_before 0 = .ok (.aload_n 0, 1) := by decide +kernel
theorem dX2_before_1 : decode cX2_before 1 = .ok (.iload_n 1, 1) := by decide +kernel
theorem dX2_before_2 : decode cX2_before 2 = .ok (.invokevirtual 42, 3) := by decide +kernel
theorem dX2_before_5 : decode cX2_before 5 = .ok (.istore_n 3, 1) := by decide +kernel
theorem dX2_before_6 : decode cX2_before 6 = .ok (.aload_n 0, 1) := by decide +kernel
theorem dX2_before_7 : decode cX2_before 7 = .ok (.iload_n 2, 1) := by decide +kernel
theorem dX2_before_8 : decode cX2_before 8 = .ok (.invokevirtual 42, 3) := by decide +kernel
theorem dX2_before_11 : decode cX2_before 11 = .ok (.istore 4, 2) := by decide +kernel
theorem dX2_before_13 : decode cX2_before 13 = .ok (.iload_n 3, 1) := by decide +kernel
theorem dX2_before_14 : decode cX2_before 14 = .ok (.iload 4, 2) := by decide +kernel
theorem dX2_before_16 : decode cX2_before 16 = .ok (.if_icmp .eq 15, 3) := by decide +kernel
theorem dX2_before_19 : decode cX2_before 19 = .ok (.iload_n 3, 1) := by decide +kernel
theorem dX2_before_20 : decode cX2_before 20 = .ok (.iload 4, 2) := by decide +kernel
theorem dX2_before_22 : decode cX2_before 22 = .ok (.if_icmp .ge 7, 3) := by decide +kernel
theorem dX2_before_25 : decode cX2_before 25 = .ok (.iconst 1, 1) := by decide +kernel
theorem dX2_before_26 : decode cX2_before 26 = .ok (.goto 4, 3) := by decide +kernel
theorem dX2_before_29 : decode cX2_before 29 = .ok (.iconst 0, 1) := by decide +kernel
theorem dX2_before_30 : decode cX2_before 30 = .ok (.ireturn, 1) := by decide +kernel
theorem dX2_before_31 : decode cX2_before 31 = .ok (.iconst 0, 1) := by decide +kernel
theorem dX2_before_32 : decode cX2_before 32 = .ok (.istore 5, 2) := by decide +kernel
theorem dX2_before_34 : decode cX2_before 34 = .ok (.iload 5, 2) := by decide +kernel
theorem dX2_before_36 : decode cX2_before 36 = .ok (.bipush 10, 2) := by decide +kernel
theorem dX2_before_38 : decode cX2_before 38 = .ok (.if_icmp .ge 40, 3) := by decide +kernel
theorem dX2_before_41 : decode cX2_before 41 = .ok (.iload_n 1, 1) := by decide +kernel
theorem dX2_before_42 : decode cX2_before 42 = .ok (.iload 5, 2) := by decide +kernel
theorem dX2_before_44 : decode cX2_before 44 = .ok (.ishr, 1) := by decide +kernel
theorem dX2_before_45 : decode cX2_before 45 = .ok (.iconst 1, 1) := by decide +kernel
theorem dX2_before_46 : decode cX2_before 46 = .ok (.iand, 1) := by decide +kernel
theorem dX2_before_47 : decode cX2_before 47 = .ok (.iload_n 2, 1) := by decide +kernel
theorem dX2_before_48 : decode cX2_before 48 = .ok (.iload 5, 2) := by decide +kernel
theorem dX2_before_50 : decode cX2_before 50 = .ok (.ishr, 1) := by decide +kernel
theorem dX2_before_51 : decode cX2_before 51 = .ok (.iconst 1, 1) := by decide +kernel
theorem dX2_before_52 : decode cX2_before 52 = .ok (.iand, 1) := by decide +kernel
theorem dX2_before_53 : decode cX2_before 53 = .ok (.if_icmp .eq 19, 3) := by decide +kernel
theorem dX2_before_56 : decode cX2_before 56 = .ok (.iload_n 1, 1) := by decide +kernel
theorem dX2_before_57 : decode cX2_before 57 = .ok (.iload 5, 2) := by decide +kernel
theorem dX2_before_59 : decode cX2_before 59 = .ok (.ishr, 1) := by decide +kernel
theorem dX2_before_60 : decode cX2_before 60 = .ok (.iconst 1, 1) := by decide +kernel
theorem dX2_before_61 : decode cX2_before 61 = .ok (.iand, 1) := by decide +kernel
theorem dX2_before_62 : decode cX2_before 62 = .ok (.iconst 1, 1) := by decide +kernel
theorem dX2_before_63 : decode cX2_before 63 = .ok (.if_icmp .ne 7, 3) := by decide +kernel
theorem dX2_before_66 : decode cX2_before 66 = .ok (.iconst 1, 1) := by decide +kernel
theorem dX2_before_67 : decode cX2_before 67 = .ok (.goto 4, 3) := by decide +kernel
theorem dX2_before_70 : decode cX2_before 70 = .ok (.iconst 0, 1) := by decide +kernel
theorem dX2_before_71 : decode cX2_before 71 = .ok (.ireturn, 1) := by decide +kernel
theorem dX2_before_72 : decode cX2_before 72 = .ok (.iinc 5 1, 3) := by decide +kernel
theorem dX2_before_75 : decode cX2_before 75 = .ok (.goto (-41), 3) := by decide +kernel
theorem dX2_before_78 : decode cX2_before 78 = .ok (.iconst 0, 1) := by decide +kernel
theorem dX2_before_79 : decode cX2_before 79 = .ok (.ireturn, 1) := by decide +kernel
theorem dX2_count_0 : decode cX2_count 0 = .ok (.aload_n 0, 1) := by decide +kernel
theorem dX2_count_1 : decode cX2_count 1 = .ok (.getfield 27, 3) := by decide +kernel
theorem dX2_count_4 : decode cX2_count 4 = .ok (.ifCond .le 7, 3) := by decide +kernel
theorem dX2_count_7 : decode cX2_count 7 = .ok (.iconst 1, 1) := by decide +kernel
theorem dX2_count_8 : decode cX2_count 8 = .ok (.goto 4, 3) := by decide +kernel
theorem dX2_count_11 : decode cX2_count 11 = .ok (.iconst 0, 1) := by decide +kernel
theorem dX2_count_12 : decode cX2_count 12 = .ok (.istore_n 2, 1) := by decide +kernel
theorem dX2_count_13 : decode cX2_count 13 = .ok (.iconst 0, 1) := by decide +kernel
theorem dX2_count_14 : decode cX2_count 14 = .ok (.istore_n 3, 1) := by decide +kernel
theorem dX2_count_15 : decode cX2_count 15 = .ok (.iload_n 3, 1) := by decide +kernel
theorem dX2_count_16 : decode cX2_count 16 = .ok (.bipush 10, 2) := by decide +kernel
theorem dX2_count_18 : decode cX2_count 18 = .ok (.if_icmp .ge 17, 3) := by decide +kernel
theorem dX2_count_21 : decode cX2_count 21 = .ok (.iload_n 2, 1) := by decide +kernel
theorem dX2_count_22 : decode cX2_count 22 = .ok (.iload_n 1, 1) := by decide +kernel
theorem dX2_count_23 : decode cX2_count 23 = .ok (.iload_n 3, 1) := by decide +kernel
theorem dX2_count_24 : decode cX2_count 24 = .ok (.ishr, 1) := by decide +kernel
theorem dX2_count_25 : decode cX2_count 25 = .ok (.iconst 1, 1) := by decide +kernel
theorem dX2_count_26 : decode cX2_count 26 = .ok (.iand, 1) := by decide +kernel
theorem dX2_count_27 : decode cX2_count 27 = .ok (.iadd, 1) := by decide +kernel
theorem dX2_count_28 : decode cX2_count 28 = .ok (.istore_n 2, 1) := by decide +kernel
theorem dX2_count_29 : decode cX2_count 29 = .ok (.iinc 3 1, 3) := by decide +kernel
theorem dX2_count_32 : decode cX2_count 32 = .ok (.goto (-17), 3) := by decide +kernel
theorem dX2_count_35 : decode cX2_count 35 = .ok (.iload_n 2, 1) := by decide +kernel
theorem dX2_count_36 : decode cX2_count 36 = .ok (.ireturn, 1) := by decide +kernel
theorem dX2_lines_0 : decode cX2_lines 0 = .ok (.aload_n 0, 1) := by decide +kernel
theorem dX2_lines_1 : decode cX2_lines 1 = .ok (.iconst 0, 1) := by decide +kernel
theorem dX2_lines_2 : decode cX2_lines 2 = .ok (.iconst 0, 1) := by decide +kernel
theorem dX2_lines_3 : decode cX2_lines 3 = .ok (.invokevirtual 56, 3) := by decide +kernel
theorem dX2_lines_6 : decode cX2_lines 6 = .ok (.istore_n 1, 1) := by decide +kernel
theorem dX2_lines_7 : decode cX2_lines 7 = .ok (.iload_n 1, 1) := by decide +kernel
theorem dX2_lines_8 : decode cX2_lines 8 = .ok (.ifCond .ge 7, 3) := by decide +kernel
theorem dX2_lines_11 : decode cX2_lines 11 = .ok (.iconst 0, 1) := by decide +kernel
theorem dX2_lines_12 : decode cX2_lines 12 = .ok (.goto 8, 3) := by decide +kernel
theorem dX2_lines_15 : decode cX2_lines 15 = .ok (.aload_n 0, 1) := by decide +kernel
theorem dX2_lines_16 : decode cX2_lines 16 = .ok (.iload_n 1, 1) := by decide +kernel
theorem dX2_lines_17 : decode cX2_lines 17 = .ok (.invokevirtual 42, 3) := by decide +kernel
theorem dX2_lines_20 : decode cX2_lines 20 = .ok (.ireturn, 1) := by decide +kernel
theorem dX2_lineOf_0 : decode cX2_lineOf 0 = .ok (.aload_n 0, 1) := by decide +kernel
theorem dX2_lineOf_1 : decode cX2_lineOf 1 = .ok (.iconst 0, 1) := by decide +kernel
theorem dX2_lineOf_2 : decode cX2_lineOf 2 = .ok (.iconst 0, 1) := by decide +kernel
theorem dX2_lineOf_3 : decode cX2_lineOf 3 = .ok (.invokevirtual 56, 3) := by decide +kernel
theorem dX2_lineOf_6 : decode cX2_lineOf 6 = .ok (.istore_n 2, 1) := by decide +kernel
theorem dX2_lineOf_7 : decode cX2_lineOf 7 = .ok (.iload_n 2, 1) := by decide +kernel
theorem dX2_lineOf_8 : decode cX2_lineOf 8 = .ok (.ifCond .lt 11, 3) := by decide +kernel
theorem dX2_lineOf_11 : decode cX2_lineOf 11 = .ok (.aload_n 0, 1) := by decide +kernel
theorem dX2_lineOf_12 : decode cX2_lineOf 12 = .ok (.iload_n 1, 1) := by decide +kernel
theorem dX2_lineOf_13 : decode cX2_lineOf 13 = .ok (.invokevirtual 30, 3) := by decide +kernel
theorem dX2_lineOf_16 : decode cX2_lineOf 16 = .ok (.ifCond .ne 5, 3) := by decide +kernel
theorem dX2_lineOf_19 : decode cX2_lineOf 19 = .ok (.iconst (-1), 1) := by decide +kernel
theorem dX2_lineOf_20 : decode cX2_lineOf 20 = .ok (.ireturn, 1) := by decide +kernel
theorem dX2_lineOf_21 : decode cX2_lineOf 21 = .ok (.iconst 0, 1) := by decide +kernel
theorem dX2_lineOf_22 : decode cX2_lineOf 22 = .ok (.istore_n 3, 1) := by decide +kernel
theorem dX2_lineOf_23 : decode cX2_lineOf 23 = .ok (.iconst 0, 1) := by decide +kernel
theorem dX2_lineOf_24 : decode cX2_lineOf 24 = .ok (.istore 4, 2) := by decide +kernel
theorem dX2_lineOf_26 : decode cX2_lineOf 26 = .ok (.iload 4, 2) := by decide +kernel
theorem dX2_lineOf_28 : decode cX2_lineOf 28 = .ok (.iload_n 1, 1) := by decide +kernel
theorem dX2_lineOf_29 : decode cX2_lineOf 29 = .ok (.if_icmp .ge 18, 3) := by decide +kernel
theorem dX2_lineOf_32 : decode cX2_lineOf 32 = .ok (.iload_n 3, 1) := by decide +kernel
theorem dX2_lineOf_33 : decode cX2_lineOf 33 = .ok (.iload_n 2, 1) := by decide +kernel
theorem dX2_lineOf_34 : decode cX2_lineOf 34 = .ok (.iload 4, 2) := by decide +kernel
theorem dX2_lineOf_36 : decode cX2_lineOf 36 = .ok (.ishr, 1) := by decide +kernel
theorem dX2_lineOf_37 : decode cX2_lineOf 37 = .ok (.iconst 1, 1) := by decide +kernel
theorem dX2_lineOf_38 : decode cX2_lineOf 38 = .ok (.iand, 1) := by decide +kernel
theorem dX2_lineOf_39 : decode cX2_lineOf 39 = .ok (.iadd, 1) := by decide +kernel
theorem dX2_lineOf_40 : decode cX2_lineOf 40 = .ok (.istore_n 3, 1) := by decide +kernel
theorem dX2_lineOf_41 : decode cX2_lineOf 41 = .ok (.iinc 4 1, 3) := by decide +kernel
theorem dX2_lineOf_44 : decode cX2_lineOf 44 = .ok (.goto (-18), 3) := by decide +kernel
theorem dX2_lineOf_47 : decode cX2_lineOf 47 = .ok (.iload_n 3, 1) := by decide +kernel
theorem dX2_lineOf_48 : decode cX2_lineOf 48 = .ok (.ireturn, 1) := by decide +kernel
theorem dX2_endOf_0 : decode cX2_endOf 0 = .ok (.aload_n 0, 1) := by decide +kernel
theorem dX2_endOf_1 : decode cX2_endOf 1 = .ok (.iconst 0, 1) := by decide +kernel
theorem dX2_endOf_2 : decode cX2_endOf 2 = .ok (.iconst 0, 1) := by decide +kernel
theorem dX2_endOf_3 : decode cX2_endOf 3 = .ok (.invokevirtual 56, 3) := by decide +kernel
theorem dX2_endOf_6 : decode cX2_endOf 6 = .ok (.istore_n 2, 1) := by decide +kernel
theorem dX2_endOf_7 : decode cX2_endOf 7 = .ok (.iconst 0, 1) := by decide +kernel
theorem dX2_endOf_8 : decode cX2_endOf 8 = .ok (.istore_n 3, 1) := by decide +kernel
theorem dX2_endOf_9 : decode cX2_endOf 9 = .ok (.iconst 0, 1) := by decide +kernel
theorem dX2_endOf_10 : decode cX2_endOf 10 = .ok (.istore 4, 2) := by decide +kernel
theorem dX2_endOf_12 : decode cX2_endOf 12 = .ok (.iload 4, 2) := by decide +kernel
theorem dX2_endOf_14 : decode cX2_endOf 14 = .ok (.aload_n 0, 1) := by decide +kernel
theorem dX2_endOf_15 : decode cX2_endOf 15 = .ok (.getfield 27, 3) := by decide +kernel
theorem dX2_endOf_18 : decode cX2_endOf 18 = .ok (.if_icmp .ge 45, 3) := by decide +kernel
theorem dX2_endOf_21 : decode cX2_endOf 21 = .ok (.iload_n 2, 1) := by decide +kernel
theorem dX2_endOf_22 : decode cX2_endOf 22 = .ok (.ifCond .lt 41, 3) := by decide +kernel
theorem dX2_endOf_25 : decode cX2_endOf 25 = .ok (.iload_n 2, 1) := by decide +kernel
theorem dX2_endOf_26 : decode cX2_endOf 26 = .ok (.iload 4, 2) := by decide +kernel
theorem dX2_endOf_28 : decode cX2_endOf 28 = .ok (.ishr, 1) := by decide +kernel
theorem dX2_endOf_29 : decode cX2_endOf 29 = .ok (.iconst 1, 1) := by decide +kernel
theorem dX2_endOf_30 : decode cX2_endOf 30 = .ok (.iand, 1) := by decide +kernel
theorem dX2_endOf_31 : decode cX2_endOf 31 = .ok (.iconst 1, 1) := by decide +kernel
theorem dX2_endOf_32 : decode cX2_endOf 32 = .ok (.if_icmp .eq 14, 3) := by decide +kernel
theorem dX2_endOf_35 : decode cX2_endOf 35 = .ok (.iload 4, 2) := by decide +kernel
theorem dX2_endOf_37 : decode cX2_endOf 37 = .ok (.aload_n 0, 1) := by decide +kernel
theorem dX2_endOf_38 : decode cX2_endOf 38 = .ok (.getfield 27, 3) := by decide +kernel
theorem dX2_endOf_41 : decode cX2_endOf 41 = .ok (.iconst 1, 1) := by decide +kernel
theorem dX2_endOf_42 : decode cX2_endOf 42 = .ok (.isub, 1) := by decide +kernel
theorem dX2_endOf_43 : decode cX2_endOf 43 = .ok (.if_icmp .ne 14, 3) := by decide +kernel
theorem dX2_endOf_46 : decode cX2_endOf 46 = .ok (.iload_n 3, 1) := by decide +kernel
theorem dX2_endOf_47 : decode cX2_endOf 47 = .ok (.iload_n 1, 1) := by decide +kernel
theorem dX2_endOf_48 : decode cX2_endOf 48 = .ok (.if_icmp .ne 6, 3) := by decide +kernel
theorem dX2_endOf_51 : decode cX2_endOf 51 = .ok (.iload 4, 2) := by decide +kernel
theorem dX2_endOf_53 : decode cX2_endOf 53 = .ok (.ireturn, 1) := by decide +kernel
theorem dX2_endOf_54 : decode cX2_endOf 54 = .ok (.iinc 3 1, 3) := by decide +kernel
theorem dX2_endOf_57 : decode cX2_endOf 57 = .ok (.iinc 4 1, 3) := by decide +kernel
theorem dX2_endOf_60 : decode cX2_endOf 60 = .ok (.goto (-48), 3) := by decide +kernel
theorem dX2_endOf_63 : decode cX2_endOf 63 = .ok (.iconst (-1), 1) := by decide +kernel
theorem dX2_endOf_64 : decode cX2_endOf 64 = .ok (.ireturn, 1) := by decide +kernel
theorem dX2_lengthOf_0 : decode cX2_lengthOf 0 = .ok (.aload_n 0, 1) := by decide +kernel
theorem dX2_lengthOf_1 : decode cX2_lengthOf 1 = .ok (.iload_n 1, 1) := by decide +kernel
theorem dX2_lengthOf_2 : decode cX2_lengthOf 2 = .ok (.invokevirtual 59, 3) := by decide +kernel
theorem dX2_lengthOf_5 : decode cX2_lengthOf 5 = .ok (.istore_n 2, 1) := by decide +kernel
theorem dX2_lengthOf_6 : decode cX2_lengthOf 6 = .ok (.iload_n 1, 1) := by decide +kernel
theorem dX2_lengthOf_7 : decode cX2_lengthOf 7 = .ok (.ifCond .le 15, 3) := by decide +kernel
theorem dX2_lengthOf_10 : decode cX2_lengthOf 10 = .ok (.aload_n 0, 1) := by decide +kernel
theorem dX2_lengthOf_11 : decode cX2_lengthOf 11 = .ok (.iload_n 1, 1) := by decide +kernel
theorem dX2_lengthOf_12 : decode cX2_lengthOf 12 = .ok (.iconst 1, 1) := by decide +kernel
theorem dX2_lengthOf_13 : decode cX2_lengthOf 13 = .ok (.isub, 1) := by decide +kernel
theorem dX2_lengthOf_14 : decode cX2_lengthOf 14 = .ok (.invokevirtual 59, 3) := by decide +kernel
theorem dX2_lengthOf_17 : decode cX2_lengthOf 17 = .ok (.iconst 1, 1) := by decide +kernel
theorem dX2_lengthOf_18 : decode cX2_lengthOf 18 = .ok (.iadd, 1) := by decide +kernel
theorem dX2_lengthOf_19 : decode cX2_lengthOf 19 = .ok (.goto 4, 3) := by decide +kernel
theorem dX2_lengthOf_22 : decode cX2_lengthOf 22 = .ok (.iconst 0, 1) := by decide +kernel
theorem dX2_lengthOf_23 : decode cX2_lengthOf 23 = .ok (.istore_n 3, 1) := by decide +kernel
theorem dX2_lengthOf_24 : decode cX2_lengthOf 24 = .ok (.iload_n 2, 1) := by decide +kernel
theorem dX2_lengthOf_25 : decode cX2_lengthOf 25 = .ok (.ifCond .ge 7, 3) := by decide +kernel
theorem dX2_lengthOf_28 : decode cX2_lengthOf 28 = .ok (.iconst (-1), 1) := by decide +kernel
theorem dX2_lengthOf_29 : decode cX2_lengthOf 29 = .ok (.goto 9, 3) := by decide +kernel
theorem dX2_lengthOf_32 : decode cX2_lengthOf 32 = .ok (.aload_n 0, 1) := by decide +kernel
theorem dX2_lengthOf_33 : decode cX2_lengthOf 33 = .ok (.iload_n 3, 1) := by decide +kernel
theorem dX2_lengthOf_34 : decode cX2_lengthOf 34 = .ok (.iload_n 2, 1) := by decide +kernel
theorem dX2_lengthOf_35 : decode cX2_lengthOf 35 = .ok (.invokevirtual 34, 3) := by decide +kernel
theorem dX2_lengthOf_38 : decode cX2_lengthOf 38 = .ok (.ireturn, 1) := by decide +kernel
theorem dX2_costWith_0 : decode cX2_costWith 0 = .ok (.ldc 41, 2) := by decide +kernel
theorem dX2_costWith_2 : decode cX2_costWith 2 = .ok (.istore_n 2, 1) := by decide +kernel
theorem dX2_costWith_3 : decode cX2_costWith 3 = .ok (.iconst 0, 1) := by decide +kernel
theorem dX2_costWith_4 : decode cX2_costWith 4 = .ok (.istore_n 3, 1) := by decide +kernel
theorem dX2_costWith_5 : decode cX2_costWith 5 = .ok (.iload_n 3, 1) := by decide +kernel
theorem dX2_costWith_6 : decode cX2_costWith 6 = .ok (.aload_n 0, 1) := by decide +kernel
theorem dX2_costWith_7 : decode cX2_costWith 7 = .ok (.invokevirtual 46, 3) := by decide +kernel
theorem dX2_costWith_10 : decode cX2_costWith 10 = .ok (.if_icmp .ge 56, 3) := by decide +kernel
theorem dX2_costWith_13 : decode cX2_costWith 13 = .ok (.aload_n 0, 1) := by decide +kernel
theorem dX2_costWith_14 : decode cX2_costWith 14 = .ok (.iload_n 3, 1) := by decide +kernel
theorem dX2_costWith_15 : decode cX2_costWith 15 = .ok (.invokevirtual 42, 3) := by decide +kernel
theorem dX2_costWith_18 : decode cX2_costWith 18 = .ok (.iload_n 1, 1) := by decide +kernel
theorem dX2_costWith_19 : decode cX2_costWith 19 = .ok (.if_icmp .ne 11, 3) := by decide +kernel
theorem dX2_costWith_22 : decode cX2_costWith 22 = .ok (.aload_n 0, 1) := by decide +kernel
theorem dX2_costWith_23 : decode cX2_costWith 23 = .ok (.iload_n 3, 1) := by decide +kernel
theorem dX2_costWith_24 : decode cX2_costWith 24 = .ok (.invokevirtual 50, 3) := by decide +kernel
theorem dX2_costWith_27 : decode cX2_costWith 27 = .ok (.goto 5, 3) := by decide +kernel
theorem dX2_costWith_30 : decode cX2_costWith 30 = .ok (.ldc 41, 2) := by decide +kernel
theorem dX2_costWith_32 : decode cX2_costWith 32 = .ok (.istore 4, 2) := by decide +kernel
theorem dX2_costWith_34 : decode cX2_costWith 34 = .ok (.iload 4, 2) := by decide +kernel
theorem dX2_costWith_36 : decode cX2_costWith 36 = .ok (.ldc 41, 2) := by decide +kernel
theorem dX2_costWith_38 : decode cX2_costWith 38 = .ok (.if_icmp .eq 20, 3) := by decide +kernel
theorem dX2_costWith_41 : decode cX2_costWith 41 = .ok (.iload_n 2, 1) := by decide +kernel
theorem dX2_costWith_42 : decode cX2_costWith 42 = .ok (.ldc 41, 2) := by decide +kernel
theorem dX2_costWith_44 : decode cX2_costWith 44 = .ok (.if_icmp .eq 9, 3) := by decide +kernel
theorem dX2_costWith_47 : decode cX2_costWith 47 = .ok (.iload 4, 2) := by decide +kernel
theorem dX2_costWith_49 : decode cX2_costWith 49 = .ok (.iload_n 2, 1) := by decide +kernel
theorem dX2_costWith_50 : decode cX2_costWith 50 = .ok (.if_icmp .ge 8, 3) := by decide +kernel
theorem dX2_costWith_53 : decode cX2_costWith 53 = .ok (.iload 4, 2) := by decide +kernel
theorem dX2_costWith_55 : decode cX2_costWith 55 = .ok (.goto 4, 3) := by decide +kernel
theorem dX2_costWith_58 : decode cX2_costWith 58 = .ok (.iload_n 2, 1) := by decide +kernel
theorem dX2_costWith_59 : decode cX2_costWith 59 = .ok (.istore_n 2, 1) := by decide +kernel
theorem dX2_costWith_60 : decode cX2_costWith 60 = .ok (.iinc 3 1, 3) := by decide +kernel
theorem dX2_costWith_63 : decode cX2_costWith 63 = .ok (.goto (-58), 3) := by decide +kernel
theorem dX2_costWith_66 : decode cX2_costWith 66 = .ok (.iload_n 2, 1) := by decide +kernel
theorem dX2_costWith_67 : decode cX2_costWith 67 = .ok (.ireturn, 1) := by decide +kernel
theorem dX2_costBreaking_0 : decode cX2_costBreaking 0 = .ok (.aload_n 0, 1) := by decide +kernel
theorem dX2_costBreaking_1 : decode cX2_costBreaking 1 = .ok (.iload_n 1, 1) := by decide +kernel
theorem dX2_costBreaking_2 : decode cX2_costBreaking 2 = .ok (.invokevirtual 30, 3) := by decide +kernel
theorem dX2_costBreaking_5 : decode cX2_costBreaking 5 = .ok (.ifCond .eq 24, 3) := by decide +kernel
theorem dX2_costBreaking_8 : decode cX2_costBreaking 8 = .ok (.iload_n 1, 1) := by decide +kernel
theorem dX2_costBreaking_9 : decode cX2_costBreaking 9 = .ok (.aload_n 0, 1) := by decide +kernel
theorem dX2_costBreaking_10 : decode cX2_costBreaking 10 = .ok (.getfield 27, 3) := by decide +kernel
theorem dX2_costBreaking_13 : decode cX2_costBreaking 13 = .ok (.iconst 1, 1) := by decide +kernel
theorem dX2_costBreaking_14 : decode cX2_costBreaking 14 = .ok (.isub, 1) := by decide +kernel
theorem dX2_costBreaking_15 : decode cX2_costBreaking 15 = .ok (.if_icmp .ge 14, 3) := by decide +kernel
theorem dX2_costBreaking_18 : decode cX2_costBreaking 18 = .ok (.aload_n 0, 1) := by decide +kernel
theorem dX2_costBreaking_19 : decode cX2_costBreaking 19 = .ok (.iconst 1, 1) := by decide +kernel
theorem dX2_costBreaking_20 : decode cX2_costBreaking 20 = .ok (.iload_n 1, 1) := by decide +kernel
theorem dX2_costBreaking_21 : decode cX2_costBreaking 21 = .ok (.ishl, 1) := by decide +kernel
theorem dX2_costBreaking_22 : decode cX2_costBreaking 22 = .ok (.iconst 0, 1) := by decide +kernel
theorem dX2_costBreaking_23 : decode cX2_costBreaking 23 = .ok (.invokevirtual 56, 3) := by decide +kernel
theorem dX2_costBreaking_26 : decode cX2_costBreaking 26 = .ok (.goto 4, 3) := by decide +kernel
theorem dX2_costBreaking_29 : decode cX2_costBreaking 29 = .ok (.iconst (-1), 1) := by decide +kernel
theorem dX2_costBreaking_30 : decode cX2_costBreaking 30 = .ok (.istore_n 2, 1) := by decide +kernel
theorem dX2_costBreaking_31 : decode cX2_costBreaking 31 = .ok (.iload_n 2, 1) := by decide +kernel
theorem dX2_costBreaking_32 : decode cX2_costBreaking 32 = .ok (.ifCond .ge 8, 3) := by decide +kernel
theorem dX2_costBreaking_35 : decode cX2_costBreaking 35 = .ok (.ldc 41, 2) := by decide +kernel
theorem dX2_costBreaking_37 : decode cX2_costBreaking 37 = .ok (.goto 8, 3) := by decide +kernel
theorem dX2_costBreaking_40 : decode cX2_costBreaking 40 = .ok (.aload_n 0, 1) := by decide +kernel
theorem dX2_costBreaking_41 : decode cX2_costBreaking 41 = .ok (.iload_n 2, 1) := by decide +kernel
theorem dX2_costBreaking_42 : decode cX2_costBreaking 42 = .ok (.invokevirtual 50, 3) := by decide +kernel
theorem dX2_costBreaking_45 : decode cX2_costBreaking 45 = .ok (.ireturn, 1) := by decide +kernel
theorem dX2_costKeeping_0 : decode cX2_costKeeping 0 = .ok (.aload_n 0, 1) := by decide +kernel
theorem dX2_costKeeping_1 : decode cX2_costKeeping 1 = .ok (.iload_n 1, 1) := by decide +kernel
theorem dX2_costKeeping_2 : decode cX2_costKeeping 2 = .ok (.invokevirtual 30, 3) := by decide +kernel
theorem dX2_costKeeping_5 : decode cX2_costKeeping 5 = .ok (.ifCond .eq 24, 3) := by decide +kernel
theorem dX2_costKeeping_8 : decode cX2_costKeeping 8 = .ok (.iload_n 1, 1) := by decide +kernel
theorem dX2_costKeeping_9 : decode cX2_costKeeping 9 = .ok (.aload_n 0, 1) := by decide +kernel
theorem dX2_costKeeping_10 : decode cX2_costKeeping 10 = .ok (.getfield 27, 3) := by decide +kernel
theorem dX2_costKeeping_13 : decode cX2_costKeeping 13 = .ok (.iconst 1, 1) := by decide +kernel
theorem dX2_costKeeping_14 : decode cX2_costKeeping 14 = .ok (.isub, 1) := by decide +kernel
theorem dX2_costKeeping_15 : decode cX2_costKeeping 15 = .ok (.if_icmp .ge 14, 3) := by decide +kernel
theorem dX2_costKeeping_18 : decode cX2_costKeeping 18 = .ok (.aload_n 0, 1) := by decide +kernel
theorem dX2_costKeeping_19 : decode cX2_costKeeping 19 = .ok (.iconst 0, 1) := by decide +kernel
theorem dX2_costKeeping_20 : decode cX2_costKeeping 20 = .ok (.iconst 1, 1) := by decide +kernel
theorem dX2_costKeeping_21 : decode cX2_costKeeping 21 = .ok (.iload_n 1, 1) := by decide +kernel
theorem dX2_costKeeping_22 : decode cX2_costKeeping 22 = .ok (.ishl, 1) := by decide +kernel
theorem dX2_costKeeping_23 : decode cX2_costKeeping 23 = .ok (.invokevirtual 56, 3) := by decide +kernel
theorem dX2_costKeeping_26 : decode cX2_costKeeping 26 = .ok (.goto 4, 3) := by decide +kernel
theorem dX2_costKeeping_29 : decode cX2_costKeeping 29 = .ok (.iconst (-1), 1) := by decide +kernel
theorem dX2_costKeeping_30 : decode cX2_costKeeping 30 = .ok (.istore_n 2, 1) := by decide +kernel
theorem dX2_costKeeping_31 : decode cX2_costKeeping 31 = .ok (.iload_n 2, 1) := by decide +kernel
theorem dX2_costKeeping_32 : decode cX2_costKeeping 32 = .ok (.ifCond .ge 8, 3) := by decide +kernel
theorem dX2_costKeeping_35 : decode cX2_costKeeping 35 = .ok (.ldc 41, 2) := by decide +kernel
theorem dX2_costKeeping_37 : decode cX2_costKeeping 37 = .ok (.goto 8, 3) := by decide +kernel
theorem dX2_costKeeping_40 : decode cX2_costKeeping 40 = .ok (.aload_n 0, 1) := by decide +kernel
theorem dX2_costKeeping_41 : decode cX2_costKeeping 41 = .ok (.iload_n 2, 1) := by decide +kernel
theorem dX2_costKeeping_42 : decode cX2_costKeeping 42 = .ok (.invokevirtual 50, 3) := by decide +kernel
theorem dX2_costKeeping_45 : decode cX2_costKeeping 45 = .ok (.ireturn, 1) := by decide +kernel
theorem dX2_choices_0 : decode cX2_choices 0 = .ok (.aload_n 0, 1) := by decide +kernel
theorem dX2_choices_1 : decode cX2_choices 1 = .ok (.invokevirtual 62, 3) := by decide +kernel
theorem dX2_choices_4 : decode cX2_choices 4 = .ok (.istore_n 1, 1) := by decide +kernel
theorem dX2_choices_5 : decode cX2_choices 5 = .ok (.iconst 0, 1) := by decide +kernel
theorem dX2_choices_6 : decode cX2_choices 6 = .ok (.istore_n 2, 1) := by decide +kernel
theorem dX2_choices_7 : decode cX2_choices 7 = .ok (.iconst 0, 1) := by decide +kernel
theorem dX2_choices_8 : decode cX2_choices 8 = .ok (.istore_n 3, 1) := by decide +kernel
theorem dX2_choices_9 : decode cX2_choices 9 = .ok (.iload_n 3, 1) := by decide +kernel
theorem dX2_choices_10 : decode cX2_choices 10 = .ok (.aload_n 0, 1) := by decide +kernel
theorem dX2_choices_11 : decode cX2_choices 11 = .ok (.invokevirtual 46, 3) := by decide +kernel
theorem dX2_choices_14 : decode cX2_choices 14 = .ok (.if_icmp .ge 32, 3) := by decide +kernel
theorem dX2_choices_17 : decode cX2_choices 17 = .ok (.iload_n 1, 1) := by decide +kernel
theorem dX2_choices_18 : decode cX2_choices 18 = .ok (.ldc 41, 2) := by decide +kernel
theorem dX2_choices_20 : decode cX2_choices 20 = .ok (.if_icmp .eq 26, 3) := by decide +kernel
theorem dX2_choices_23 : decode cX2_choices 23 = .ok (.aload_n 0, 1) := by decide +kernel
theorem dX2_choices_24 : decode cX2_choices 24 = .ok (.iload_n 3, 1) := by decide +kernel
theorem dX2_choices_25 : decode cX2_choices 25 = .ok (.invokevirtual 50, 3) := by decide +kernel
theorem dX2_choices_28 : decode cX2_choices 28 = .ok (.iload_n 1, 1) := by decide +kernel
theorem dX2_choices_29 : decode cX2_choices 29 = .ok (.if_icmp .ne 9, 3) := by decide +kernel
theorem dX2_choices_32 : decode cX2_choices 32 = .ok (.iload_n 2, 1) := by decide +kernel
theorem dX2_choices_33 : decode cX2_choices 33 = .ok (.iconst 1, 1) := by decide +kernel
theorem dX2_choices_34 : decode cX2_choices 34 = .ok (.iadd, 1) := by decide +kernel
theorem dX2_choices_35 : decode cX2_choices 35 = .ok (.goto 4, 3) := by decide +kernel
theorem dX2_choices_38 : decode cX2_choices 38 = .ok (.iload_n 2, 1) := by decide +kernel
theorem dX2_choices_39 : decode cX2_choices 39 = .ok (.istore_n 2, 1) := by decide +kernel
theorem dX2_choices_40 : decode cX2_choices 40 = .ok (.iinc 3 1, 3) := by decide +kernel
theorem dX2_choices_43 : decode cX2_choices 43 = .ok (.goto (-34), 3) := by decide +kernel
theorem dX2_choices_46 : decode cX2_choices 46 = .ok (.iload_n 2, 1) := by decide +kernel
theorem dX2_choices_47 : decode cX2_choices 47 = .ok (.ireturn, 1) := by decide +kernel
end
section
/-! ROWS of this claim's own: Java ints as Ints (iZ), loops, joins, contracts that only read -/
theorem iZ_add (a b : Int) : iZ a + iZ b = iZ (a + b) := (Int32.ofInt_add a b).symm
theorem iZ_sub (a b : Int) : iZ a - iZ b = iZ (a - b) := (Int32.ofInt_sub a b).symm
theorem iZ_mul (a b : Int) : iZ a * iZ b = iZ (a * b) := (Int32.ofInt_mul a b).symm
theorem iZ_to {z : Int} (h : Rng z) : (iZ z).toInt = z := Int32.toInt_ofInt_of_le (by have := h.1; omega) (by have := h.2; omega)
theorem iZ_of (x : Int32) : x = iZ x.toInt := (Int32.ofInt_toInt x).symm
theorem Rng_to (x : Int32) : Rng x.toInt := ⟨by have := Int32.le_toInt x; omega, by have := Int32.toInt_lt x; omega⟩
theorem iZ_lt {a b : Int} (ha : Rng a) (hb : Rng b) : iZ a < iZ b ↔ a < b := by rw [Int32.lt_iff_toInt_lt, iZ_to ha, iZ_to hb]
theorem iZ_le {a b : Int} (ha : Rng a) (hb : Rng b) : iZ a ≤ iZ b ↔ a ≤ b := by rw [Int32.le_iff_toInt_le, iZ_to ha, iZ_to hb]
theorem iZ_eq {a b : Int} (ha : Rng a) (hb : Rng b) : iZ a = iZ b ↔ a = b := by rw [← Int32.toInt_inj, iZ_to ha, iZ_to hb]
theorem iZ_0 : iZ 0 = 0 := by decide +kernel
theorem Rng_0 : Rng 0 := ⟨by omega, by omega⟩
theorem iZ_nat (n : Nat) : iZ (n : Int) = nI n := Int32.ofInt_eq_ofNat
theorem iZ_clamp {z : Int} {k : Nat} (hz : z = (k : Int)) (hk : k < 2147483648) : (iZ z).toNatClampNeg = k := by
  subst hz
  rw [iZ_nat]
  exact nI_clamp (by omega)
theorem iZ_in {z : Int} {k n : Nat} (hz : z = (k : Int)) (hk : k < n) (hn : n < 2147483648) : vp_in (iZ z) n := by
  subst hz
  rw [iZ_nat]
  exact vp_in_nI hk (by omega)
theorem iZ_upd (F : Nat → Int) (k : Nat) (x : Int) : upd (fun j => iZ (F j)) k (iZ x) = fun j => iZ (updZ F k x j) := by
  funext j
  unfold upd updZ
  split <;> rfl
theorem iZ_byte {z : Int} (h1 : -128 ≤ z) (h2 : z ≤ 127) : (iZ z).toInt8.toInt32 = iZ z := by
  unfold iZ
  rw [Int32.toInt8_ofInt, Int8.toInt32_ofInt (by rw [show Int8.minValue.toInt = -128 from rfl]; exact h1) (by rw [show Int8.maxValue.toInt = 127 from rfl]; exact h2)]
theorem iZ_nar {z : Int} (h1 : -128 ≤ z) (h2 : z ≤ 127) : vp_nar .byte (iZ z) = iZ z := by rw [vp_nar_byte, iZ_byte h1 h2]
/-- a bit of a set, as the code takes it -/
theorem iZ_bit : ∀ set, set < 512 → ∀ k, k < 10 → (iZ ((set : Nat) : Int) >>> (iZ ((k : Nat) : Int) &&& 31)) &&& iZ 1 = iZ ((pb_bt set k : Nat) : Int) := by
  intro set hs k hk
  rw [iZ_nat, iZ_nat, iZ_nat]
  have h1 : ∀ k, k < 10 → ((nI k &&& 31).toBitVec.smod 32).toNat = k := by decide +kernel
  rw [pk_shrN (by omega) _ k (h1 k hk), show iZ 1 = (1 : Int32) by decide +kernel, pk_andN (by exact Nat.lt_of_le_of_lt (Nat.div_le_self _ _) (by omega)) 1 (by decide +kernel)]
  rfl
theorem iZ_shl : ∀ k, k < 10 → iZ 1 <<< (iZ ((k : Nat) : Int) &&& 31) = iZ (((2 ^ k : Nat)) : Int) := by decide +kernel
section ZROWS
variable {p : Program} {l : Launch} {e : Env} {R : Room} {s : State} {m : MethodId} {args : Array Value} {below : List Frame} {meth : Method} {c : Code} {H : Heap} {locs : List Loc} {cells slots : Nat} {Q : State → Prop}
variable {cc : ByteArray} {pc : Nat} {ls : Array Slot} {rest : List Value}
theorem zr_const (hx : p.tables.exec = Jvm.exec) (hb : c.code = cc) {n : Int} (hdg : decode cc pc = .ok (.iconst n, 1)) (k : W p l e R s m args below meth c H locs cells slots Q (F0 m (pc + 1) ls (.int (iZ n) :: rest))) : W p l e R s m args below meth c H locs cells slots Q (F0 m pc ls rest) := lv_iconst hx hb hdg rfl k
theorem zr_bipush (hx : p.tables.exec = Jvm.exec) (hb : c.code = cc) {n : Int} (hdg : decode cc pc = .ok (.bipush n, 2)) (h : -128 ≤ n ∧ n ≤ 127) (k : W p l e R s m args below meth c H locs cells slots Q (F0 m (pc + 2) ls (.int (iZ n) :: rest))) : W p l e R s m args below meth c H locs cells slots Q (F0 m pc ls rest) := lv_bipush hx hb hdg (by
  unfold iZ
  exact Int8.toInt32_ofInt (by rw [show Int8.minValue.toInt = -128 from rfl]; exact h.1) (by rw [show Int8.maxValue.toInt = 127 from rfl]; exact h.2)) k
theorem zr_ldc (hx : p.tables.exec = Jvm.exec) (hb : c.code = cc) {own : String} {index : Nat} {v : Int32} {n : Int} (hown : s.vm.findClass own = some m.cls) (hconst : (Jvm.Cond.constant own index v).before args s = true) (hdg : decode cc pc = .ok (.ldc index, 2)) (hv : v = iZ n) (k : W p l e R s m args below meth c H locs cells slots Q (F0 m (pc + 2) ls (.int (iZ n) :: rest))) : W p l e R s m args below meth c H locs cells slots Q (F0 m pc ls rest) := lv_ldc hx hb hown hconst hdg (hv ▸ k)
theorem zr_add (hx : p.tables.exec = Jvm.exec) (hb : c.code = cc) {a b : Int} (hdg : decode cc pc = .ok (.iadd, 1)) (k : W p l e R s m args below meth c H locs cells slots Q (F0 m (pc + 1) ls (.int (iZ (a + b)) :: rest))) : W p l e R s m args below meth c H locs cells slots Q (F0 m pc ls (.int (iZ b) :: .int (iZ a) :: rest)) := lv_iadd hx hb hdg (by rw [iZ_add]; exact k)
theorem zr_sub (hx : p.tables.exec = Jvm.exec) (hb : c.code = cc) {a b : Int} (hdg : decode cc pc = .ok (.isub, 1)) (k : W p l e R s m args below meth c H locs cells slots Q (F0 m (pc + 1) ls (.int (iZ (a - b)) :: rest))) : W p l e R s m args below meth c H locs cells slots Q (F0 m pc ls (.int (iZ b) :: .int (iZ a) :: rest)) := lv_isub hx hb hdg (by rw [iZ_sub]; exact k)
theorem zr_mul (hx : p.tables.exec = Jvm.exec) (hb : c.code = cc) {a b : Int} (hdg : decode cc pc = .ok (.imul, 1)) (k : W p l e R s m args below meth c H locs cells slots Q (F0 m (pc + 1) ls (.int (iZ (a * b)) :: rest))) : W p l e R s m args below meth c H locs cells slots Q (F0 m pc ls (.int (iZ b) :: .int (iZ a) :: rest)) := lv_imul hx hb hdg (by rw [iZ_mul]; exact k)
theorem zr_i2b (hx : p.tables.exec = Jvm.exec) (hb : c.code = cc) {a : Int} (hdg : decode cc pc = .ok (.i2b, 1)) (h : -128 ≤ a ∧ a ≤ 127) (k : W p l e R s m args below meth c H locs cells slots Q (F0 m (pc + 1) ls (.int (iZ a) :: rest))) : W p l e R s m args below meth c H locs cells slots Q (F0 m pc ls (.int (iZ a) :: rest)) := lv_i2b hx hb hdg (iZ_byte h.1 h.2) k
theorem zr_inc (hx : p.tables.exec = Jvm.exec) (hb : c.code = cc) {i nL : Nat} {n z : Int} {lv lv' : List (Nat × Value)} (hdg : decode cc pc = .ok (.iinc i n, 3)) (h : lv_has ls nL lv) (k : Nat) (hk : lv[k]? = some (i, .int (iZ z))) (hn : i < nL) (hl : (i, Value.int (iZ (z + n))) :: lv.filter (fun q => !(q.1 == i) && !(q.1 + 1 == i && q.2.category == 2)) = lv')
    (kk : ∀ ls' : Array Slot, lv_has ls' nL lv' → W p l e R s m args below meth c H locs cells slots Q (F0 m (pc + 3) ls' rest)) : W p l e R s m args below meth c H locs cells slots Q (F0 m pc ls rest) := lv_iinc hx hb hdg h (k := k) hk (iZ_add z n) hn hl kk
/-- the top is another name of the same number -/
theorem zr_top {x y : Int32} (h : x = y) (k : W p l e R s m args below meth c H locs cells slots Q (F0 m pc ls (.int y :: rest))) : W p l e R s m args below meth c H locs cells slots Q (F0 m pc ls (.int x :: rest)) := h ▸ k
theorem zr_eq {x y : Int} (h : x = y) (k : W p l e R s m args below meth c H locs cells slots Q (F0 m pc ls (.int (iZ y) :: rest))) : W p l e R s m args below meth c H locs cells slots Q (F0 m pc ls (.int (iZ x) :: rest)) := h ▸ k
theorem zr_name {x : Int} (k : ∀ y : Int, y = x → W p l e R s m args below meth c H locs cells slots Q (F0 m pc ls (.int (iZ y) :: rest))) : W p l e R s m args below meth c H locs cells slots Q (F0 m pc ls (.int (iZ x) :: rest)) := k x rfl
theorem zr_icmp_lt (hx : p.tables.exec = Jvm.exec) (hb : c.code = cc) {a b off : Int} {tgt : Nat} (hdg : decode cc pc = .ok (.if_icmp .lt off, 3)) (ht : (pc : Int) + off = (tgt : Int)) (h : Rng a ∧ Rng b)
    (kt : a < b → W p l e R s m args below meth c H locs cells slots Q (F0 m tgt ls rest)) (kf : b ≤ a → W p l e R s m args below meth c H locs cells slots Q (F0 m (pc + 3) ls rest)) : W p l e R s m args below meth c H locs cells slots Q (F0 m pc ls (.int (iZ b) :: .int (iZ a) :: rest)) :=
  lv_icmp_lt hx hb hdg ht (fun q => kt ((iZ_lt h.1 h.2).mp q)) (fun q => kf (Int.not_lt.mp (fun z => q ((iZ_lt h.1 h.2).mpr z))))
theorem zr_icmp_ge (hx : p.tables.exec = Jvm.exec) (hb : c.code = cc) {a b off : Int} {tgt : Nat} (hdg : decode cc pc = .ok (.if_icmp .ge off, 3)) (ht : (pc : Int) + off = (tgt : Int)) (h : Rng a ∧ Rng b)
    (kt : b ≤ a → W p l e R s m args below meth c H locs cells slots Q (F0 m tgt ls rest)) (kf : a < b → W p l e R s m args below meth c H locs cells slots Q (F0 m (pc + 3) ls rest)) : W p l e R s m args below meth c H locs cells slots Q (F0 m pc ls (.int (iZ b) :: .int (iZ a) :: rest)) :=
  lv_icmp_ge hx hb hdg ht (fun q => kt ((iZ_le h.2 h.1).mp q)) (fun q => kf (Int.not_le.mp (fun z => q ((iZ_le h.2 h.1).mpr z))))
theorem zr_icmp_gt (hx : p.tables.exec = Jvm.exec) (hb : c.code = cc) {a b off : Int} {tgt : Nat} (hdg : decode cc pc = .ok (.if_icmp .gt off, 3)) (ht : (pc : Int) + off = (tgt : Int)) (h : Rng a ∧ Rng b)
    (kt : b < a → W p l e R s m args below meth c H locs cells slots Q (F0 m tgt ls rest)) (kf : a ≤ b → W p l e R s m args below meth c H locs cells slots Q (F0 m (pc + 3) ls rest)) : W p l e R s m args below meth c H locs cells slots Q (F0 m pc ls (.int (iZ b) :: .int (iZ a) :: rest)) :=
  lv_icmp_gt hx hb hdg ht (fun q => kt ((iZ_lt h.2 h.1).mp q)) (fun q => kf (Int.not_lt.mp (fun z => q ((iZ_lt h.2 h.1).mpr z))))
theorem zr_icmp_le (hx : p.tables.exec = Jvm.exec) (hb : c.code = cc) {a b off : Int} {tgt : Nat} (hdg : decode cc pc = .ok (.if_icmp .le off, 3)) (ht : (pc : Int) + off = (tgt : Int)) (h : Rng a ∧ Rng b)
    (kt : a ≤ b → W p l e R s m args below meth c H locs cells slots Q (F0 m tgt ls rest)) (kf : b < a → W p l e R s m args below meth c H locs cells slots Q (F0 m (pc + 3) ls rest)) : W p l e R s m args below meth c H locs cells slots Q (F0 m pc ls (.int (iZ b) :: .int (iZ a) :: rest)) :=
  lv_icmp_le hx hb hdg ht (fun q => kt ((iZ_le h.1 h.2).mp q)) (fun q => kf (Int.not_le.mp (fun z => q ((iZ_le h.1 h.2).mpr z))))
theorem zr_icmp_eq (hx : p.tables.exec = Jvm.exec) (hb : c.code = cc) {a b off : Int} {tgt : Nat} (hdg : decode cc pc = .ok (.if_icmp .eq off, 3)) (ht : (pc : Int) + off = (tgt : Int)) (h : Rng a ∧ Rng b)
    (kt : a = b → W p l e R s m args below meth c H locs cells slots Q (F0 m tgt ls rest)) (kf : a ≠ b → W p l e R s m args below meth c H locs cells slots Q (F0 m (pc + 3) ls rest)) : W p l e R s m args below meth c H locs cells slots Q (F0 m pc ls (.int (iZ b) :: .int (iZ a) :: rest)) :=
  lv_icmp_eq hx hb hdg ht (fun q => kt ((iZ_eq h.1 h.2).mp q)) (fun q => kf (fun z => q ((iZ_eq h.1 h.2).mpr z)))
theorem zr_icmp_ne (hx : p.tables.exec = Jvm.exec) (hb : c.code = cc) {a b off : Int} {tgt : Nat} (hdg : decode cc pc = .ok (.if_icmp .ne off, 3)) (ht : (pc : Int) + off = (tgt : Int)) (h : Rng a ∧ Rng b)
    (kt : a ≠ b → W p l e R s m args below meth c H locs cells slots Q (F0 m tgt ls rest)) (kf : a = b → W p l e R s m args below meth c H locs cells slots Q (F0 m (pc + 3) ls rest)) : W p l e R s m args below meth c H locs cells slots Q (F0 m pc ls (.int (iZ b) :: .int (iZ a) :: rest)) :=
  lv_icmp_ne hx hb hdg ht (fun q => kt (fun z => q ((iZ_eq h.1 h.2).mpr z))) (fun q => kf ((iZ_eq h.1 h.2).mp q))
theorem zr_if_lt (hx : p.tables.exec = Jvm.exec) (hb : c.code = cc) {a off : Int} {tgt : Nat} (hdg : decode cc pc = .ok (.ifCond .lt off, 3)) (ht : (pc : Int) + off = (tgt : Int)) (h : Rng a)
    (kt : a < 0 → W p l e R s m args below meth c H locs cells slots Q (F0 m tgt ls rest)) (kf : 0 ≤ a → W p l e R s m args below meth c H locs cells slots Q (F0 m (pc + 3) ls rest)) : W p l e R s m args below meth c H locs cells slots Q (F0 m pc ls (.int (iZ a) :: rest)) :=
  lv_if_lt hx hb hdg ht (fun q => kt ((iZ_lt h Rng_0).mp (iZ_0 ▸ q))) (fun q => kf (Int.not_lt.mp (fun z => q (iZ_0 ▸ (iZ_lt h Rng_0).mpr z))))
theorem zr_if_ge (hx : p.tables.exec = Jvm.exec) (hb : c.code = cc) {a off : Int} {tgt : Nat} (hdg : decode cc pc = .ok (.ifCond .ge off, 3)) (ht : (pc : Int) + off = (tgt : Int)) (h : Rng a)
    (kt : 0 ≤ a → W p l e R s m args below meth c H locs cells slots Q (F0 m tgt ls rest)) (kf : a < 0 → W p l e R s m args below meth c H locs cells slots Q (F0 m (pc + 3) ls rest)) : W p l e R s m args below meth c H locs cells slots Q (F0 m pc ls (.int (iZ a) :: rest)) :=
  lv_if_ge hx hb hdg ht (fun q => kt ((iZ_le Rng_0 h).mp (iZ_0 ▸ q))) (fun q => kf (Int.not_le.mp (fun z => q (iZ_0 ▸ (iZ_le Rng_0 h).mpr z))))
theorem zr_if_gt (hx : p.tables.exec = Jvm.exec) (hb : c.code = cc) {a off : Int} {tgt : Nat} (hdg : decode cc pc = .ok (.ifCond .gt off, 3)) (ht : (pc : Int) + off = (tgt : Int)) (h : Rng a)
    (kt : 0 < a → W p l e R s m args below meth c H locs cells slots Q (F0 m tgt ls rest)) (kf : a ≤ 0 → W p l e R s m args below meth c H locs cells slots Q (F0 m (pc + 3) ls rest)) : W p l e R s m args below meth c H locs cells slots Q (F0 m pc ls (.int (iZ a) :: rest)) :=
  lv_if_gt hx hb hdg ht (fun q => kt ((iZ_lt Rng_0 h).mp (iZ_0 ▸ q))) (fun q => kf (Int.not_lt.mp (fun z => q (iZ_0 ▸ (iZ_lt Rng_0 h).mpr z))))
theorem zr_if_le (hx : p.tables.exec = Jvm.exec) (hb : c.code = cc) {a off : Int} {tgt : Nat} (hdg : decode cc pc = .ok (.ifCond .le off, 3)) (ht : (pc : Int) + off = (tgt : Int)) (h : Rng a)
    (kt : a ≤ 0 → W p l e R s m args below meth c H locs cells slots Q (F0 m tgt ls rest)) (kf : 0 < a → W p l e R s m args below meth c H locs cells slots Q (F0 m (pc + 3) ls rest)) : W p l e R s m args below meth c H locs cells slots Q (F0 m pc ls (.int (iZ a) :: rest)) :=
  lv_if_le hx hb hdg ht (fun q => kt ((iZ_le h Rng_0).mp (iZ_0 ▸ q))) (fun q => kf (Int.not_le.mp (fun z => q (iZ_0 ▸ (iZ_le h Rng_0).mpr z))))
theorem zr_if_eq (hx : p.tables.exec = Jvm.exec) (hb : c.code = cc) {a off : Int} {tgt : Nat} (hdg : decode cc pc = .ok (.ifCond .eq off, 3)) (ht : (pc : Int) + off = (tgt : Int)) (h : Rng a)
    (kt : a = 0 → W p l e R s m args below meth c H locs cells slots Q (F0 m tgt ls rest)) (kf : a ≠ 0 → W p l e R s m args below meth c H locs cells slots Q (F0 m (pc + 3) ls rest)) : W p l e R s m args below meth c H locs cells slots Q (F0 m pc ls (.int (iZ a) :: rest)) :=
  lv_if_eq hx hb hdg ht (fun q => kt ((iZ_eq h Rng_0).mp (q.trans iZ_0.symm))) (fun q => kf (fun z => q (((iZ_eq h Rng_0).mpr z).trans iZ_0)))
theorem zr_if_ne (hx : p.tables.exec = Jvm.exec) (hb : c.code = cc) {a off : Int} {tgt : Nat} (hdg : decode cc pc = .ok (.ifCond .ne off, 3)) (ht : (pc : Int) + off = (tgt : Int)) (h : Rng a)
    (kt : a ≠ 0 → W p l e R s m args below meth c H locs cells slots Q (F0 m tgt ls rest)) (kf : a = 0 → W p l e R s m args below meth c H locs cells slots Q (F0 m (pc + 3) ls rest)) : W p l e R s m args below meth c H locs cells slots Q (F0 m pc ls (.int (iZ a) :: rest)) :=
  lv_if_ne hx hb hdg ht (fun q => kt (fun z => q (((iZ_eq h Rng_0).mpr z).trans iZ_0))) (fun q => kf ((iZ_eq h Rng_0).mp (q.trans iZ_0.symm)))
/-- where two ways meet: what holds there is said once (nothing is written on either way) -/
theorem zr_join {α : Type} (F : α → JFrame) (C : α → Prop) {g : JFrame} (h1 : (∀ x, C x → W p l e R s m args below meth c H locs cells slots Q (F x)) → W p l e R s m args below meth c H locs cells slots Q g) (h2 : ∀ x, C x → W p l e R s m args below meth c H locs cells slots Q (F x)) : W p l e R s m args below meth c H locs cells slots Q g := h1 h2
theorem zr_joinL {α : Type} (pcj nL : Nat) (st : List Value) (I : α → List (Nat × Value)) (C : α → Prop) {g : JFrame} (h1 : (∀ x ls, C x → lv_has ls nL (I x) → W p l e R s m args below meth c H locs cells slots Q (F0 m pcj ls st)) → W p l e R s m args below meth c H locs cells slots Q g) (h2 : ∀ x ls, C x → lv_has ls nL (I x) → W p l e R s m args below meth c H locs cells slots Q (F0 m pcj ls st)) : W p l e R s m args below meth c H locs cells slots Q g := h1 h2
theorem zr_joinH {α : Type} (pcj nL : Nat) (I : α → List (Nat × Value)) (C : α → Heap → List Loc → Prop) {g : JFrame} (h1 : (∀ x H locs ls, C x H locs → lv_has ls nL (I x) → W p l e R s m args below meth c H locs cells slots Q (F0 m pcj ls [])) → W p l e R s m args below meth c H locs cells slots Q g) (h2 : ∀ x H locs ls, C x H locs → lv_has ls nL (I x) → W p l e R s m args below meth c H locs cells slots Q (F0 m pcj ls [])) : W p l e R s m args below meth c H locs cells slots Q g := h1 h2
/-- a loop that only reads: i goes up to N -/
theorem zr_loop {pc nL : Nat} (N : Nat) (I : Nat → List (Nat × Value)) (C : Nat → Prop) (step : ∀ i ls, i ≤ N → C i → lv_has ls nL (I i) → (∀ ls, i < N → C (i + 1) → lv_has ls nL (I (i + 1)) → W p l e R s m args below meth c H locs cells slots Q (F0 m pc ls [])) → W p l e R s m args below meth c H locs cells slots Q (F0 m pc ls [])) : ∀ i ls, i ≤ N → C i → lv_has ls nL (I i) → W p l e R s m args below meth c H locs cells slots Q (F0 m pc ls []) := by
  have key : ∀ d i ls, i + d = N → C i → lv_has ls nL (I i) → W p l e R s m args below meth c H locs cells slots Q (F0 m pc ls []) := by
    intro d
    induction d with
    | zero => intro i ls h1 h2 h3; exact step i ls (by omega) h2 h3 (fun ls h => by omega)
    | succ d ih => intro i ls h1 h2 h3; exact step i ls (by omega) h2 h3 (fun ls _ h4 h5 => ih (i + 1) ls (by omega) h4 h5)
  intro i ls h1 h2 h3
  exact key (N - i) i ls (by omega) h2 h3
/-- the same with more that goes along -/
theorem zr_loopA {pc nL : Nat} {α : Type} (N : Nat) (I : Nat → α → List (Nat × Value)) (C : Nat → α → Prop) (step : ∀ i a ls, i ≤ N → C i a → lv_has ls nL (I i a) → (∀ a ls, i < N → C (i + 1) a → lv_has ls nL (I (i + 1) a) → W p l e R s m args below meth c H locs cells slots Q (F0 m pc ls [])) → W p l e R s m args below meth c H locs cells slots Q (F0 m pc ls [])) : ∀ i a ls, i ≤ N → C i a → lv_has ls nL (I i a) → W p l e R s m args below meth c H locs cells slots Q (F0 m pc ls []) := by
  have key : ∀ d i a ls, i + d = N → C i a → lv_has ls nL (I i a) → W p l e R s m args below meth c H locs cells slots Q (F0 m pc ls []) := by
    intro d
    induction d with
    | zero => intro i a ls h1 h2 h3; exact step i a ls (by omega) h2 h3 (fun a ls h => by omega)
    | succ d ih => intro i a ls h1 h2 h3; exact step i a ls (by omega) h2 h3 (fun a ls _ h4 h5 => ih (i + 1) a ls (by omega) h4 h5)
  intro i a ls h1 h2 h3
  exact key (N - i) i a ls (by omega) h2 h3
end ZROWS
/-- a loop that writes -/
theorem zr_loopH {p : Program} {l : Launch} {e : Env} {R : Room} {s : State} {m : MethodId} {args : Array Value} {below : List Frame} {meth : Method} {c : Code} {cells slots : Nat} {Q : State → Prop} {pc nL : Nat} {α : Type} (N : Nat) (I : Nat → α → List (Nat × Value)) (C : Nat → α → Heap → List Loc → Prop) (step : ∀ i a H locs ls, i ≤ N → C i a H locs → lv_has ls nL (I i a) → (∀ a H locs ls, i < N → C (i + 1) a H locs → lv_has ls nL (I (i + 1) a) → W p l e R s m args below meth c H locs cells slots Q (F0 m pc ls [])) → W p l e R s m args below meth c H locs cells slots Q (F0 m pc ls [])) : ∀ i a H locs ls, i ≤ N → C i a H locs → lv_has ls nL (I i a) → W p l e R s m args below meth c H locs cells slots Q (F0 m pc ls []) := by
  have key : ∀ d i a H locs ls, i + d = N → C i a H locs → lv_has ls nL (I i a) → W p l e R s m args below meth c H locs cells slots Q (F0 m pc ls []) := by
    intro d
    induction d with
    | zero => intro i a H locs ls h1 h2 h3; exact step i a H locs ls (by omega) h2 h3 (fun a H locs ls h => by omega)
    | succ d ih => intro i a H locs ls h1 h2 h3; exact step i a H locs ls (by omega) h2 h3 (fun a H locs ls _ h4 h5 => ih (i + 1) a H locs ls (by omega) h4 h5)
  intro i a H locs ls h1 h2 h3
  exact key (N - i) i a H locs ls (by omega) h2 h3
end
section
/-! WORLDS: the component's cells (its object, two byte arrays, four int arrays), the reference's (its object, two int arrays) -/
abbrev vwCl : List vw_C := [(RX1, TX1, 10), (RX2, TX2, 5)]
abbrev tyA (dB dI : ClassId) : List (ClassId × FieldType) := [(dB, .byte), (dI, .int)]
def wX (dB dI : ClassId) (h : Nat → Nat) (S : Par) (T : Pri) : va_W := [(h 0, .inr (0, [.int (iZ S.w), .int (iZ S.e), .ref (h 1), .ref (h 2), .int (iZ (S.c : Int)), .int (iZ T.b), .ref (h 3), .ref (h 4), .ref (h 5), .ref (h 6)])), (h 1, .inl (dB, 10, .inl (fun j => iZ (S.W j)))), (h 2, .inl (dB, 10, .inl (fun j => iZ (S.P j)))), (h 3, .inl (dI, 121, .inl (fun j => iZ (T.O j)))), (h 4, .inl (dI, 11, .inl (fun j => iZ (T.U j)))), (h 5, .inl (dI, 11, .inl (fun j => iZ (T.B j)))), (h 6, .inl (dI, 11, .inl (fun j => iZ (T.Y j))))]
def wM (dI : ClassId) (h : Nat → Nat) (S : Par) : va_W := [(h 0, .inr (1, [.int (iZ S.w), .int (iZ S.e), .int (iZ (S.c : Int)), .ref (h 1), .ref (h 2)])), (h 1, .inl (dI, 10, .inl (fun j => iZ (S.W j)))), (h 2, .inl (dI, 10, .inl (fun j => iZ (S.P j))))]
abbrev CX (p : Program) (m : MethodId) (c : Code) (cc : ByteArray) (nL : Nat) (s : State) (args : Array Value) (D : va_G) (dB dI : ClassId) : Prop := CallFix p m c cc nL s args lw_all RX1 ∧ va_K D vwCl (tyA dB dI) s
abbrev CM (p : Program) (m : MethodId) (c : Code) (cc : ByteArray) (nL : Nat) (s : State) (args : Array Value) (D : va_G) (dB dI : ClassId) : Prop := CallFix p m c cc nL s args lw_all RX2 ∧ va_K D vwCl (tyA dB dI) s
theorem vd_map {A : Nat → Prop} {w w' : va_W} (h : w.map (fun q => q.1) = w'.map (fun q => q.1)) (hD : va_D A w) : va_D A w' := by
  have key : ∀ (k : Nat) (q : Nat × va_E), w'[k]? = some q → ∃ q2 : Nat × va_E, w[k]? = some q2 ∧ q2.1 = q.1 := by
    intro k q hk
    have h1 : (w'.map (fun q => q.1))[k]? = some q.1 := by rw [List.getElem?_map, hk]; rfl
    rw [← h, List.getElem?_map] at h1
    cases hq : w[k]? with
    | none => rw [hq] at h1; cases h1
    | some q2 => rw [hq] at h1; exact ⟨q2, rfl, Option.some.inj h1⟩
  refine ⟨fun i j x y hi hj hxy => ?_, fun k q hk => ?_⟩
  · obtain ⟨x2, a1, a2⟩ := key i x hi
    obtain ⟨y2, b1, b2⟩ := key j y hj
    exact hD.1 i j x2 y2 a1 b1 (by rw [a2, b2, hxy])
  · obtain ⟨q2, a1, a2⟩ := key k q hk
    rw [← a2]
    exact hD.2 k q2 a1
section WROWS
variable {p : Program} {l : Launch} {e : Env} {R : Room} {s : State} {m : MethodId} {args : Array Value} {below : List Frame} {meth : Method} {c : Code} {H : Heap} {locs : List Loc} {cells slots : Nat} {Q : State → Prop}
variable {cc : ByteArray} {pc nL : Nat} {ls : Array Slot} {rest : List Value} {D : va_G} {dB dI : ClassId} {A : Nat → Prop} {H0 : Heap}
variable {h : Nat → Nat} {S : Par} {T : Pri}

theorem gX_width (G : CX p m c cc nL s args D dB dI) (hP : va_P D vwCl (wX dB dI h S T) H) (hdg : decode cc pc = .ok (.getfield 29, 3)) (kk : W p l e R s m args below meth c H locs cells slots Q (F0 m (pc + 3) ls (.int (iZ S.w) :: rest))) : W p l e R s m args below meth c H locs cells slots Q (F0 m pc ls (.ref (h 0) :: rest)) := va_get (D := D) (ci := 0) (v := .int (iZ S.w)) (C := RX1) (T := TX1) (N := 10) G.1.1 G.1.2.1 G.1.2.2.2.2 in_X1 G.1.2.2.2.1 G.2 hP 0 rfl rfl 0 (by decide) (G.1.2.2.2.2 _ q31) (fun _ h9 => h9) rfl hdg kk
theorem gX_extra (G : CX p m c cc nL s args D dB dI) (hP : va_P D vwCl (wX dB dI h S T) H) (hdg : decode cc pc = .ok (.getfield 33, 3)) (kk : W p l e R s m args below meth c H locs cells slots Q (F0 m (pc + 3) ls (.int (iZ S.e) :: rest))) : W p l e R s m args below meth c H locs cells slots Q (F0 m pc ls (.ref (h 0) :: rest)) := va_get (D := D) (ci := 0) (v := .int (iZ S.e)) (C := RX1) (T := TX1) (N := 10) G.1.1 G.1.2.1 G.1.2.2.2.2 in_X1 G.1.2.2.2.1 G.2 hP 0 rfl rfl 1 (by decide) (G.1.2.2.2.2 _ q32) (fun _ h9 => h9) rfl hdg kk
theorem gX_widths (G : CX p m c cc nL s args D dB dI) (hP : va_P D vwCl (wX dB dI h S T) H) (hdg : decode cc pc = .ok (.getfield 7, 3)) (kk : W p l e R s m args below meth c H locs cells slots Q (F0 m (pc + 3) ls (.ref (h 1) :: rest))) : W p l e R s m args below meth c H locs cells slots Q (F0 m pc ls (.ref (h 0) :: rest)) := va_get (D := D) (ci := 0) (v := .ref (h 1)) (C := RX1) (T := TX1) (N := 10) G.1.1 G.1.2.1 G.1.2.2.2.2 in_X1 G.1.2.2.2.1 G.2 hP 0 rfl rfl 2 (by decide) (G.1.2.2.2.2 _ q33) (fun _ h9 => h9) rfl hdg kk
theorem gX_pens (G : CX p m c cc nL s args D dB dI) (hP : va_P D vwCl (wX dB dI h S T) H) (hdg : decode cc pc = .ok (.getfield 13, 3)) (kk : W p l e R s m args below meth c H locs cells slots Q (F0 m (pc + 3) ls (.ref (h 2) :: rest))) : W p l e R s m args below meth c H locs cells slots Q (F0 m pc ls (.ref (h 0) :: rest)) := va_get (D := D) (ci := 0) (v := .ref (h 2)) (C := RX1) (T := TX1) (N := 10) G.1.1 G.1.2.1 G.1.2.2.2.2 in_X1 G.1.2.2.2.1 G.2 hP 0 rfl rfl 3 (by decide) (G.1.2.2.2.2 _ q34) (fun _ h9 => h9) rfl hdg kk
theorem gX_count (G : CX p m c cc nL s args D dB dI) (hP : va_P D vwCl (wX dB dI h S T) H) (hdg : decode cc pc = .ok (.getfield 40, 3)) (kk : W p l e R s m args below meth c H locs cells slots Q (F0 m (pc + 3) ls (.int (iZ (S.c : Int)) :: rest))) : W p l e R s m args below meth c H locs cells slots Q (F0 m pc ls (.ref (h 0) :: rest)) := va_get (D := D) (ci := 0) (v := .int (iZ (S.c : Int))) (C := RX1) (T := TX1) (N := 10) G.1.1 G.1.2.1 G.1.2.2.2.2 in_X1 G.1.2.2.2.1 G.2 hP 0 rfl rfl 4 (by decide) (G.1.2.2.2.2 _ q35) (fun _ h9 => h9) rfl hdg kk
theorem gX_barred (G : CX p m c cc nL s args D dB dI) (hP : va_P D vwCl (wX dB dI h S T) H) (hdg : decode cc pc = .ok (.getfield 47, 3)) (kk : W p l e R s m args below meth c H locs cells slots Q (F0 m (pc + 3) ls (.int (iZ T.b) :: rest))) : W p l e R s m args below meth c H locs cells slots Q (F0 m pc ls (.ref (h 0) :: rest)) := va_get (D := D) (ci := 0) (v := .int (iZ T.b)) (C := RX1) (T := TX1) (N := 10) G.1.1 G.1.2.1 G.1.2.2.2.2 in_X1 G.1.2.2.2.1 G.2 hP 0 rfl rfl 5 (by decide) (G.1.2.2.2.2 _ q36) (fun _ h9 => h9) rfl hdg kk
theorem gX_onward (G : CX p m c cc nL s args D dB dI) (hP : va_P D vwCl (wX dB dI h S T) H) (hdg : decode cc pc = .ok (.getfield 16, 3)) (kk : W p l e R s m args below meth c H locs cells slots Q (F0 m (pc + 3) ls (.ref (h 3) :: rest))) : W p l e R s m args below meth c H locs cells slots Q (F0 m pc ls (.ref (h 0) :: rest)) := va_get (D := D) (ci := 0) (v := .ref (h 3)) (C := RX1) (T := TX1) (N := 10) G.1.1 G.1.2.1 G.1.2.2.2.2 in_X1 G.1.2.2.2.1 G.2 hP 0 rfl rfl 6 (by decide) (G.1.2.2.2.2 _ q37) (fun _ h9 => h9) rfl hdg kk
theorem gX_upTo (G : CX p m c cc nL s args D dB dI) (hP : va_P D vwCl (wX dB dI h S T) H) (hdg : decode cc pc = .ok (.getfield 20, 3)) (kk : W p l e R s m args below meth c H locs cells slots Q (F0 m (pc + 3) ls (.ref (h 4) :: rest))) : W p l e R s m args below meth c H locs cells slots Q (F0 m pc ls (.ref (h 0) :: rest)) := va_get (D := D) (ci := 0) (v := .ref (h 4)) (C := RX1) (T := TX1) (N := 10) G.1.1 G.1.2.1 G.1.2.2.2.2 in_X1 G.1.2.2.2.1 G.2 hP 0 rfl rfl 7 (by decide) (G.1.2.2.2.2 _ q38) (fun _ h9 => h9) rfl hdg kk
theorem gX_best (G : CX p m c cc nL s args D dB dI) (hP : va_P D vwCl (wX dB dI h S T) H) (hdg : decode cc pc = .ok (.getfield 23, 3)) (kk : W p l e R s m args below meth c H locs cells slots Q (F0 m (pc + 3) ls (.ref (h 5) :: rest))) : W p l e R s m args below meth c H locs cells slots Q (F0 m pc ls (.ref (h 0) :: rest)) := va_get (D := D) (ci := 0) (v := .ref (h 5)) (C := RX1) (T := TX1) (N := 10) G.1.1 G.1.2.1 G.1.2.2.2.2 in_X1 G.1.2.2.2.1 G.2 hP 0 rfl rfl 8 (by decide) (G.1.2.2.2.2 _ q39) (fun _ h9 => h9) rfl hdg kk
theorem gX_ways (G : CX p m c cc nL s args D dB dI) (hP : va_P D vwCl (wX dB dI h S T) H) (hdg : decode cc pc = .ok (.getfield 26, 3)) (kk : W p l e R s m args below meth c H locs cells slots Q (F0 m (pc + 3) ls (.ref (h 6) :: rest))) : W p l e R s m args below meth c H locs cells slots Q (F0 m pc ls (.ref (h 0) :: rest)) := va_get (D := D) (ci := 0) (v := .ref (h 6)) (C := RX1) (T := TX1) (N := 10) G.1.1 G.1.2.1 G.1.2.2.2.2 in_X1 G.1.2.2.2.1 G.2 hP 0 rfl rfl 9 (by decide) (G.1.2.2.2.2 _ q40) (fun _ h9 => h9) rfl hdg kk
theorem gM_room (G : CM p m c cc nL s args D dB dI) (hP : va_P D vwCl (wM dI h S) H) (hdg : decode cc pc = .ok (.getfield 16, 3)) (kk : W p l e R s m args below meth c H locs cells slots Q (F0 m (pc + 3) ls (.int (iZ S.w) :: rest))) : W p l e R s m args below meth c H locs cells slots Q (F0 m pc ls (.ref (h 0) :: rest)) := va_get (D := D) (ci := 1) (v := .int (iZ S.w)) (C := RX2) (T := TX2) (N := 5) G.1.1 G.1.2.1 G.1.2.2.2.2 in_X2 G.1.2.2.2.1 G.2 hP 0 rfl rfl 0 (by decide) (G.1.2.2.2.2 _ q179) (fun _ h9 => h9) rfl hdg kk
theorem gM_more (G : CM p m c cc nL s args D dB dI) (hP : va_P D vwCl (wM dI h S) H) (hdg : decode cc pc = .ok (.getfield 20, 3)) (kk : W p l e R s m args below meth c H locs cells slots Q (F0 m (pc + 3) ls (.int (iZ S.e) :: rest))) : W p l e R s m args below meth c H locs cells slots Q (F0 m pc ls (.ref (h 0) :: rest)) := va_get (D := D) (ci := 1) (v := .int (iZ S.e)) (C := RX2) (T := TX2) (N := 5) G.1.1 G.1.2.1 G.1.2.2.2.2 in_X2 G.1.2.2.2.1 G.2 hP 0 rfl rfl 1 (by decide) (G.1.2.2.2.2 _ q180) (fun _ h9 => h9) rfl hdg kk
theorem gM_size (G : CM p m c cc nL s args D dB dI) (hP : va_P D vwCl (wM dI h S) H) (hdg : decode cc pc = .ok (.getfield 27, 3)) (kk : W p l e R s m args below meth c H locs cells slots Q (F0 m (pc + 3) ls (.int (iZ (S.c : Int)) :: rest))) : W p l e R s m args below meth c H locs cells slots Q (F0 m pc ls (.ref (h 0) :: rest)) := va_get (D := D) (ci := 1) (v := .int (iZ (S.c : Int))) (C := RX2) (T := TX2) (N := 5) G.1.1 G.1.2.1 G.1.2.2.2.2 in_X2 G.1.2.2.2.1 G.2 hP 0 rfl rfl 2 (by decide) (G.1.2.2.2.2 _ q181) (fun _ h9 => h9) rfl hdg kk
theorem gM_wide (G : CM p m c cc nL s args D dB dI) (hP : va_P D vwCl (wM dI h S) H) (hdg : decode cc pc = .ok (.getfield 7, 3)) (kk : W p l e R s m args below meth c H locs cells slots Q (F0 m (pc + 3) ls (.ref (h 1) :: rest))) : W p l e R s m args below meth c H locs cells slots Q (F0 m pc ls (.ref (h 0) :: rest)) := va_get (D := D) (ci := 1) (v := .ref (h 1)) (C := RX2) (T := TX2) (N := 5) G.1.1 G.1.2.1 G.1.2.2.2.2 in_X2 G.1.2.2.2.1 G.2 hP 0 rfl rfl 3 (by decide) (G.1.2.2.2.2 _ q182) (fun _ h9 => h9) rfl hdg kk
theorem gM_price (G : CM p m c cc nL s args D dB dI) (hP : va_P D vwCl (wM dI h S) H) (hdg : decode cc pc = .ok (.getfield 13, 3)) (kk : W p l e R s m args below meth c H locs cells slots Q (F0 m (pc + 3) ls (.ref (h 2) :: rest))) : W p l e R s m args below meth c H locs cells slots Q (F0 m pc ls (.ref (h 0) :: rest)) := va_get (D := D) (ci := 1) (v := .ref (h 2)) (C := RX2) (T := TX2) (N := 5) G.1.1 G.1.2.1 G.1.2.2.2.2 in_X2 G.1.2.2.2.1 G.2 hP 0 rfl rfl 4 (by decide) (G.1.2.2.2.2 _ q183) (fun _ h9 => h9) rfl hdg kk
theorem aX_widths (G : CX p m c cc nL s args D dB dI) (hP : va_P D vwCl (wX dB dI h S T) H) {z : Int} (k : Nat) (hz : z = (k : Int)) (hk : k < 10) (hdg : decode cc pc = .ok (.baload, 1)) (kk : W p l e R s m args below meth c H locs cells slots Q (F0 m (pc + 1) ls (.int (iZ (S.W k)) :: rest))) : W p l e R s m args below meth c H locs cells slots Q (F0 m pc ls (.int (iZ z) :: .ref (h 1) :: rest)) := va_bald (D := D) (f := fun j => iZ (S.W j)) G.1.1 G.1.2.1 G.2 hP 1 0 rfl rfl (iZ_in hz hk (by omega)) hdg (by rw [iZ_clamp hz (by omega)]; exact kk)
theorem aX_pens (G : CX p m c cc nL s args D dB dI) (hP : va_P D vwCl (wX dB dI h S T) H) {z : Int} (k : Nat) (hz : z = (k : Int)) (hk : k < 10) (hdg : decode cc pc = .ok (.baload, 1)) (kk : W p l e R s m args below meth c H locs cells slots Q (F0 m (pc + 1) ls (.int (iZ (S.P k)) :: rest))) : W p l e R s m args below meth c H locs cells slots Q (F0 m pc ls (.int (iZ z) :: .ref (h 2) :: rest)) := va_bald (D := D) (f := fun j => iZ (S.P j)) G.1.1 G.1.2.1 G.2 hP 2 0 rfl rfl (iZ_in hz hk (by omega)) hdg (by rw [iZ_clamp hz (by omega)]; exact kk)
theorem aX_onward (G : CX p m c cc nL s args D dB dI) (hP : va_P D vwCl (wX dB dI h S T) H) {z : Int} (k : Nat) (hz : z = (k : Int)) (hk : k < 121) (hdg : decode cc pc = .ok (.iaload, 1)) (kk : W p l e R s m args below meth c H locs cells slots Q (F0 m (pc + 1) ls (.int (iZ (T.O k)) :: rest))) : W p l e R s m args below meth c H locs cells slots Q (F0 m pc ls (.int (iZ z) :: .ref (h 3) :: rest)) := va_iald (D := D) (f := fun j => iZ (T.O j)) G.1.1 G.1.2.1 G.2 hP 3 1 rfl rfl (iZ_in hz hk (by omega)) hdg (by rw [iZ_clamp hz (by omega)]; exact kk)
theorem aX_upTo (G : CX p m c cc nL s args D dB dI) (hP : va_P D vwCl (wX dB dI h S T) H) {z : Int} (k : Nat) (hz : z = (k : Int)) (hk : k < 11) (hdg : decode cc pc = .ok (.iaload, 1)) (kk : W p l e R s m args below meth c H locs cells slots Q (F0 m (pc + 1) ls (.int (iZ (T.U k)) :: rest))) : W p l e R s m args below meth c H locs cells slots Q (F0 m pc ls (.int (iZ z) :: .ref (h 4) :: rest)) := va_iald (D := D) (f := fun j => iZ (T.U j)) G.1.1 G.1.2.1 G.2 hP 4 1 rfl rfl (iZ_in hz hk (by omega)) hdg (by rw [iZ_clamp hz (by omega)]; exact kk)
theorem aX_best (G : CX p m c cc nL s args D dB dI) (hP : va_P D vwCl (wX dB dI h S T) H) {z : Int} (k : Nat) (hz : z = (k : Int)) (hk : k < 11) (hdg : decode cc pc = .ok (.iaload, 1)) (kk : W p l e R s m args below meth c H locs cells slots Q (F0 m (pc + 1) ls (.int (iZ (T.B k)) :: rest))) : W p l e R s m args below meth c H locs cells slots Q (F0 m pc ls (.int (iZ z) :: .ref (h 5) :: rest)) := va_iald (D := D) (f := fun j => iZ (T.B j)) G.1.1 G.1.2.1 G.2 hP 5 1 rfl rfl (iZ_in hz hk (by omega)) hdg (by rw [iZ_clamp hz (by omega)]; exact kk)
theorem aX_ways (G : CX p m c cc nL s args D dB dI) (hP : va_P D vwCl (wX dB dI h S T) H) {z : Int} (k : Nat) (hz : z = (k : Int)) (hk : k < 11) (hdg : decode cc pc = .ok (.iaload, 1)) (kk : W p l e R s m args below meth c H locs cells slots Q (F0 m (pc + 1) ls (.int (iZ (T.Y k)) :: rest))) : W p l e R s m args below meth c H locs cells slots Q (F0 m pc ls (.int (iZ z) :: .ref (h 6) :: rest)) := va_iald (D := D) (f := fun j => iZ (T.Y j)) G.1.1 G.1.2.1 G.2 hP 6 1 rfl rfl (iZ_in hz hk (by omega)) hdg (by rw [iZ_clamp hz (by omega)]; exact kk)
theorem aM_wide (G : CM p m c cc nL s args D dB dI) (hP : va_P D vwCl (wM dI h S) H) {z : Int} (k : Nat) (hz : z = (k : Int)) (hk : k < 10) (hdg : decode cc pc = .ok (.iaload, 1)) (kk : W p l e R s m args below meth c H locs cells slots Q (F0 m (pc + 1) ls (.int (iZ (S.W k)) :: rest))) : W p l e R s m args below meth c H locs cells slots Q (F0 m pc ls (.int (iZ z) :: .ref (h 1) :: rest)) := va_iald (D := D) (f := fun j => iZ (S.W j)) G.1.1 G.1.2.1 G.2 hP 1 1 rfl rfl (iZ_in hz hk (by omega)) hdg (by rw [iZ_clamp hz (by omega)]; exact kk)
theorem aM_price (G : CM p m c cc nL s args D dB dI) (hP : va_P D vwCl (wM dI h S) H) {z : Int} (k : Nat) (hz : z = (k : Int)) (hk : k < 10) (hdg : decode cc pc = .ok (.iaload, 1)) (kk : W p l e R s m args below meth c H locs cells slots Q (F0 m (pc + 1) ls (.int (iZ (S.P k)) :: rest))) : W p l e R s m args below meth c H locs cells slots Q (F0 m pc ls (.int (iZ z) :: .ref (h 2) :: rest)) := va_iald (D := D) (f := fun j => iZ (S.P j)) G.1.1 G.1.2.1 G.2 hP 2 1 rfl rfl (iZ_in hz hk (by omega)) hdg (by rw [iZ_clamp hz (by omega)]; exact kk)
theorem sX_widths (G : CX p m c cc nL s args D dB dI) (hD : ∀ S T, va_D A (wX dB dI h S T)) (hS : va_S A H0 H locs) (hP : va_P D vwCl (wX dB dI h S T) H) {z x : Int} (k : Nat) (hz : z = (k : Int)) (hk : k < 10) (hx : -128 ≤ x ∧ x ≤ 127) (hdg : decode cc pc = .ok (.bastore, 1)) (kk : ∀ (H1 : Heap) (locs1 : List Loc), va_P D vwCl (wX dB dI h (Par.of S.w S.e S.c (updZ S.W k x) S.P) T) H1 → va_S A H0 H1 locs1 → W p l e R s m args below meth c H1 locs1 cells slots Q (F0 m (pc + 1) ls rest)) : W p l e R s m args below meth c H locs cells slots Q (F0 m pc ls (.int (iZ x) :: .int (iZ z) :: .ref (h 1) :: rest)) := va_bast (D := D) (f := fun j => iZ (S.W j)) G.1.1 G.1.2.1 G.2 hP (hD S T) hS 1 0 rfl rfl (iZ_in hz hk (by omega)) hdg (fun H1 locs1 hP1 _ hS1 => kk H1 locs1 (by rw [iZ_nar hx.1 hx.2, iZ_clamp hz (by omega), iZ_upd] at hP1; exact hP1) hS1)
theorem sX_pens (G : CX p m c cc nL s args D dB dI) (hD : ∀ S T, va_D A (wX dB dI h S T)) (hS : va_S A H0 H locs) (hP : va_P D vwCl (wX dB dI h S T) H) {z x : Int} (k : Nat) (hz : z = (k : Int)) (hk : k < 10) (hx : -128 ≤ x ∧ x ≤ 127) (hdg : decode cc pc = .ok (.bastore, 1)) (kk : ∀ (H1 : Heap) (locs1 : List Loc), va_P D vwCl (wX dB dI h (Par.of S.w S.e S.c S.W (updZ S.P k x)) T) H1 → va_S A H0 H1 locs1 → W p l e R s m args below meth c H1 locs1 cells slots Q (F0 m (pc + 1) ls rest)) : W p l e R s m args below meth c H locs cells slots Q (F0 m pc ls (.int (iZ x) :: .int (iZ z) :: .ref (h 2) :: rest)) := va_bast (D := D) (f := fun j => iZ (S.P j)) G.1.1 G.1.2.1 G.2 hP (hD S T) hS 2 0 rfl rfl (iZ_in hz hk (by omega)) hdg (fun H1 locs1 hP1 _ hS1 => kk H1 locs1 (by rw [iZ_nar hx.1 hx.2, iZ_clamp hz (by omega), iZ_upd] at hP1; exact hP1) hS1)
theorem sX_onward (G : CX p m c cc nL s args D dB dI) (hD : ∀ S T, va_D A (wX dB dI h S T)) (hS : va_S A H0 H locs) (hP : va_P D vwCl (wX dB dI h S T) H) {z x : Int} (k : Nat) (hz : z = (k : Int)) (hk : k < 121) (hdg : decode cc pc = .ok (.iastore, 1)) (kk : ∀ (H1 : Heap) (locs1 : List Loc), va_P D vwCl (wX dB dI h S (Pri.of T.b (updZ T.O k x) T.U T.B T.Y)) H1 → va_S A H0 H1 locs1 → W p l e R s m args below meth c H1 locs1 cells slots Q (F0 m (pc + 1) ls rest)) : W p l e R s m args below meth c H locs cells slots Q (F0 m pc ls (.int (iZ x) :: .int (iZ z) :: .ref (h 3) :: rest)) := va_iast (D := D) (f := fun j => iZ (T.O j)) G.1.1 G.1.2.1 G.2 hP (hD S T) hS 3 1 rfl rfl (iZ_in hz hk (by omega)) hdg (fun H1 locs1 hP1 _ hS1 => kk H1 locs1 (by rw [iZ_clamp hz (by omega), iZ_upd] at hP1; exact hP1) hS1)
theorem sX_upTo (G : CX p m c cc nL s args D dB dI) (hD : ∀ S T, va_D A (wX dB dI h S T)) (hS : va_S A H0 H locs) (hP : va_P D vwCl (wX dB dI h S T) H) {z x : Int} (k : Nat) (hz : z = (k : Int)) (hk : k < 11) (hdg : decode cc pc = .ok (.iastore, 1)) (kk : ∀ (H1 : Heap) (locs1 : List Loc), va_P D vwCl (wX dB dI h S (Pri.of T.b T.O (updZ T.U k x) T.B T.Y)) H1 → va_S A H0 H1 locs1 → W p l e R s m args below meth c H1 locs1 cells slots Q (F0 m (pc + 1) ls rest)) : W p l e R s m args below meth c H locs cells slots Q (F0 m pc ls (.int (iZ x) :: .int (iZ z) :: .ref (h 4) :: rest)) := va_iast (D := D) (f := fun j => iZ (T.U j)) G.1.1 G.1.2.1 G.2 hP (hD S T) hS 4 1 rfl rfl (iZ_in hz hk (by omega)) hdg (fun H1 locs1 hP1 _ hS1 => kk H1 locs1 (by rw [iZ_clamp hz (by omega), iZ_upd] at hP1; exact hP1) hS1)
theorem sX_best (G : CX p m c cc nL s args D dB dI) (hD : ∀ S T, va_D A (wX dB dI h S T)) (hS : va_S A H0 H locs) (hP : va_P D vwCl (wX dB dI h S T) H) {z x : Int} (k : Nat) (hz : z = (k : Int)) (hk : k < 11) (hdg : decode cc pc = .ok (.iastore, 1)) (kk : ∀ (H1 : Heap) (locs1 : List Loc), va_P D vwCl (wX dB dI h S (Pri.of T.b T.O T.U (updZ T.B k x) T.Y)) H1 → va_S A H0 H1 locs1 → W p l e R s m args below meth c H1 locs1 cells slots Q (F0 m (pc + 1) ls rest)) : W p l e R s m args below meth c H locs cells slots Q (F0 m pc ls (.int (iZ x) :: .int (iZ z) :: .ref (h 5) :: rest)) := va_iast (D := D) (f := fun j => iZ (T.B j)) G.1.1 G.1.2.1 G.2 hP (hD S T) hS 5 1 rfl rfl (iZ_in hz hk (by omega)) hdg (fun H1 locs1 hP1 _ hS1 => kk H1 locs1 (by rw [iZ_clamp hz (by omega), iZ_upd] at hP1; exact hP1) hS1)
theorem sX_ways (G : CX p m c cc nL s args D dB dI) (hD : ∀ S T, va_D A (wX dB dI h S T)) (hS : va_S A H0 H locs) (hP : va_P D vwCl (wX dB dI h S T) H) {z x : Int} (k : Nat) (hz : z = (k : Int)) (hk : k < 11) (hdg : decode cc pc = .ok (.iastore, 1)) (kk : ∀ (H1 : Heap) (locs1 : List Loc), va_P D vwCl (wX dB dI h S (Pri.of T.b T.O T.U T.B (updZ T.Y k x))) H1 → va_S A H0 H1 locs1 → W p l e R s m args below meth c H1 locs1 cells slots Q (F0 m (pc + 1) ls rest)) : W p l e R s m args below meth c H locs cells slots Q (F0 m pc ls (.int (iZ x) :: .int (iZ z) :: .ref (h 6) :: rest)) := va_iast (D := D) (f := fun j => iZ (T.Y j)) G.1.1 G.1.2.1 G.2 hP (hD S T) hS 6 1 rfl rfl (iZ_in hz hk (by omega)) hdg (fun H1 locs1 hP1 _ hS1 => kk H1 locs1 (by rw [iZ_clamp hz (by omega), iZ_upd] at hP1; exact hP1) hS1)
theorem sM_wide (G : CM p m c cc nL s args D dB dI) (hD : ∀ S, va_D A (wM dI h S)) (hS : va_S A H0 H locs) (hP : va_P D vwCl (wM dI h S) H) {z x : Int} (k : Nat) (hz : z = (k : Int)) (hk : k < 10) (hdg : decode cc pc = .ok (.iastore, 1)) (kk : ∀ (H1 : Heap) (locs1 : List Loc), va_P D vwCl (wM dI h (Par.of S.w S.e S.c (updZ S.W k x) S.P)) H1 → va_S A H0 H1 locs1 → W p l e R s m args below meth c H1 locs1 cells slots Q (F0 m (pc + 1) ls rest)) : W p l e R s m args below meth c H locs cells slots Q (F0 m pc ls (.int (iZ x) :: .int (iZ z) :: .ref (h 1) :: rest)) := va_iast (D := D) (f := fun j => iZ (S.W j)) G.1.1 G.1.2.1 G.2 hP (hD S) hS 1 1 rfl rfl (iZ_in hz hk (by omega)) hdg (fun H1 locs1 hP1 _ hS1 => kk H1 locs1 (by rw [iZ_clamp hz (by omega), iZ_upd] at hP1; exact hP1) hS1)
theorem sM_price (G : CM p m c cc nL s args D dB dI) (hD : ∀ S, va_D A (wM dI h S)) (hS : va_S A H0 H locs) (hP : va_P D vwCl (wM dI h S) H) {z x : Int} (k : Nat) (hz : z = (k : Int)) (hk : k < 10) (hdg : decode cc pc = .ok (.iastore, 1)) (kk : ∀ (H1 : Heap) (locs1 : List Loc), va_P D vwCl (wM dI h (Par.of S.w S.e S.c S.W (updZ S.P k x))) H1 → va_S A H0 H1 locs1 → W p l e R s m args below meth c H1 locs1 cells slots Q (F0 m (pc + 1) ls rest)) : W p l e R s m args below meth c H locs cells slots Q (F0 m pc ls (.int (iZ x) :: .int (iZ z) :: .ref (h 2) :: rest)) := va_iast (D := D) (f := fun j => iZ (S.P j)) G.1.1 G.1.2.1 G.2 hP (hD S) hS 2 1 rfl rfl (iZ_in hz hk (by omega)) hdg (fun H1 locs1 hP1 _ hS1 => kk H1 locs1 (by rw [iZ_clamp hz (by omega), iZ_upd] at hP1; exact hP1) hS1)
theorem pX_width (G : CX p m c cc nL s args D dB dI) (hD : ∀ S T, va_D A (wX dB dI h S T)) (hS : va_S A H0 H locs) (hP : va_P D vwCl (wX dB dI h S T) H) {x : Int} (hdg : decode cc pc = .ok (.putfield 29, 3)) (kk : ∀ (H1 : Heap) (locs1 : List Loc), va_P D vwCl (wX dB dI h (Par.of x S.e S.c S.W S.P) T) H1 → va_S A H0 H1 locs1 → W p l e R s m args below meth c H1 locs1 cells slots Q (F0 m (pc + 3) ls rest)) : W p l e R s m args below meth c H locs cells slots Q (F0 m pc ls (.int (iZ x) :: .ref (h 0) :: rest)) := va_put (D := D) (ci := 0) (v := .int (iZ x)) (ty := .int) (C := RX1) (T := TX1) (N := 10) G.1.1 G.1.2.1 G.1.2.2.2.2 in_X1 tyX1 tyX1_ok nmX1 G.1.2.2.2.1 G.2 hP (hD S T) hS 0 rfl rfl 0 (by decide) (G.1.2.2.2.2 _ q31) (fun _ h9 => h9) rfl (by decide +kernel) rfl rfl (Nat.le_of_ble_eq_true rfl) hdg (fun H1 locs1 hP1 _ hS1 => kk H1 locs1 hP1 hS1)
theorem pX_count (G : CX p m c cc nL s args D dB dI) (hD : ∀ S T, va_D A (wX dB dI h S T)) (hS : va_S A H0 H locs) (hP : va_P D vwCl (wX dB dI h S T) H) {x : Nat} (hdg : decode cc pc = .ok (.putfield 40, 3)) (kk : ∀ (H1 : Heap) (locs1 : List Loc), va_P D vwCl (wX dB dI h (Par.of S.w S.e x S.W S.P) T) H1 → va_S A H0 H1 locs1 → W p l e R s m args below meth c H1 locs1 cells slots Q (F0 m (pc + 3) ls rest)) : W p l e R s m args below meth c H locs cells slots Q (F0 m pc ls (.int (iZ (x : Int)) :: .ref (h 0) :: rest)) := va_put (D := D) (ci := 0) (v := .int (iZ (x : Int))) (ty := .int) (C := RX1) (T := TX1) (N := 10) G.1.1 G.1.2.1 G.1.2.2.2.2 in_X1 tyX1 tyX1_ok nmX1 G.1.2.2.2.1 G.2 hP (hD S T) hS 0 rfl rfl 4 (by decide) (G.1.2.2.2.2 _ q35) (fun _ h9 => h9) rfl (by decide +kernel) rfl rfl (Nat.le_of_ble_eq_true rfl) hdg (fun H1 locs1 hP1 _ hS1 => kk H1 locs1 hP1 hS1)
theorem pX_barred (G : CX p m c cc nL s args D dB dI) (hD : ∀ S T, va_D A (wX dB dI h S T)) (hS : va_S A H0 H locs) (hP : va_P D vwCl (wX dB dI h S T) H) {x : Int} (hdg : decode cc pc = .ok (.putfield 47, 3)) (kk : ∀ (H1 : Heap) (locs1 : List Loc), va_P D vwCl (wX dB dI h S (Pri.of x T.O T.U T.B T.Y)) H1 → va_S A H0 H1 locs1 → W p l e R s m args below meth c H1 locs1 cells slots Q (F0 m (pc + 3) ls rest)) : W p l e R s m args below meth c H locs cells slots Q (F0 m pc ls (.int (iZ x) :: .ref (h 0) :: rest)) := va_put (D := D) (ci := 0) (v := .int (iZ x)) (ty := .int) (C := RX1) (T := TX1) (N := 10) G.1.1 G.1.2.1 G.1.2.2.2.2 in_X1 tyX1 tyX1_ok nmX1 G.1.2.2.2.1 G.2 hP (hD S T) hS 0 rfl rfl 5 (by decide) (G.1.2.2.2.2 _ q36) (fun _ h9 => h9) rfl (by decide +kernel) rfl rfl (Nat.le_of_ble_eq_true rfl) hdg (fun H1 locs1 hP1 _ hS1 => kk H1 locs1 hP1 hS1)
theorem pM_room (G : CM p m c cc nL s args D dB dI) (hD : ∀ S, va_D A (wM dI h S)) (hS : va_S A H0 H locs) (hP : va_P D vwCl (wM dI h S) H) {x : Int} (hdg : decode cc pc = .ok (.putfield 16, 3)) (kk : ∀ (H1 : Heap) (locs1 : List Loc), va_P D vwCl (wM dI h (Par.of x S.e S.c S.W S.P)) H1 → va_S A H0 H1 locs1 → W p l e R s m args below meth c H1 locs1 cells slots Q (F0 m (pc + 3) ls rest)) : W p l e R s m args below meth c H locs cells slots Q (F0 m pc ls (.int (iZ x) :: .ref (h 0) :: rest)) := va_put (D := D) (ci := 1) (v := .int (iZ x)) (ty := .int) (C := RX2) (T := TX2) (N := 5) G.1.1 G.1.2.1 G.1.2.2.2.2 in_X2 tyX2 tyX2_ok nmX2 G.1.2.2.2.1 G.2 hP (hD S) hS 0 rfl rfl 0 (by decide) (G.1.2.2.2.2 _ q179) (fun _ h9 => h9) rfl (by decide +kernel) rfl rfl (Nat.le_of_ble_eq_true rfl) hdg (fun H1 locs1 hP1 _ hS1 => kk H1 locs1 hP1 hS1)
theorem pM_size (G : CM p m c cc nL s args D dB dI) (hD : ∀ S, va_D A (wM dI h S)) (hS : va_S A H0 H locs) (hP : va_P D vwCl (wM dI h S) H) {x : Nat} (hdg : decode cc pc = .ok (.putfield 27, 3)) (kk : ∀ (H1 : Heap) (locs1 : List Loc), va_P D vwCl (wM dI h (Par.of S.w S.e x S.W S.P)) H1 → va_S A H0 H1 locs1 → W p l e R s m args below meth c H1 locs1 cells slots Q (F0 m (pc + 3) ls rest)) : W p l e R s m args below meth c H locs cells slots Q (F0 m pc ls (.int (iZ (x : Int)) :: .ref (h 0) :: rest)) := va_put (D := D) (ci := 1) (v := .int (iZ (x : Int))) (ty := .int) (C := RX2) (T := TX2) (N := 5) G.1.1 G.1.2.1 G.1.2.2.2.2 in_X2 tyX2 tyX2_ok nmX2 G.1.2.2.2.1 G.2 hP (hD S) hS 0 rfl rfl 2 (by decide) (G.1.2.2.2.2 _ q181) (fun _ h9 => h9) rfl (by decide +kernel) rfl rfl (Nat.le_of_ble_eq_true rfl) hdg (fun H1 locs1 hP1 _ hS1 => kk H1 locs1 hP1 hS1)
end WROWS
/-! CONTRACTS -/
/-- the method only reads, and answers r -/
def RO (l : Launch) (y : MethodName) (bytes : ByteArray) (nL : Nat) (ret : Option FieldType) (rm : Room) (D : va_G) (tys : List (ClassId × FieldType)) (w : va_W) (As : List Value) (r : Int32) : Prop := Met l y (ws_ y bytes nL ret) rm (va_Pc As (fun U => va_P D vwCl w U.heap ∧ va_K D vwCl tys U)) (QcRead r) 0 0 (fun _ => False)
theorem RO.mk {l : Launch} {y : MethodName} {bytes : ByteArray} {nL : Nat} {ret : Option FieldType} {rm : Room} {D : va_G} {tys : List (ClassId × FieldType)} {w : va_W} {As : List Value} {r : Int32} (hy : plainName y.cls = true) (hlen : (lg_sl As).length ≤ nL)
    (body : ∀ (p : Program) (e : Env) (s : State) (m : MethodId) (below : List Frame) (meth : Method) (c : Code) (ls : Array Slot), CallFix p m c bytes nL s As.toArray lw_all y.cls ∧ va_K D vwCl tys s → meth.sig.returnType = ret → meth.locks = false → va_P D vwCl w s.heap → lv_has ls nL (lv_args 0 As) → W p l e rm s m As.toArray below meth c s.heap [] 0 0 (MQ below (QcRead r) As.toArray s 0 0 (fun _ => False)) (F0 m 0 ls [])) : RO l y bytes nL ret rm D tys w As r := by
  refine Met.ofW (cc := bytes) (maxL := nL) (ret := ret) hy rfl ?_
  intro p e s m args below meth c s₁ B hml hv
  obtain ⟨rfl, hP, hK⟩ := hv
  have hts := atoms_spec (ws := ws_ y bytes nL ret) B.pre
  have hts : ∀ w ∈ lw_all, w.before As.toArray s = true := fun w h => hts w (List.mem_cons_of_mem _ h)
  have hl := lv_entry As (n := nL) hlen
  rw [lg_entry_eq]
  generalize (lg_sl As ++ List.replicate (nL - (lg_sl As).length) Slot.unset).toArray = ls at hl ⊢
  exact body p e s m below meth c ls ⟨⟨B.exec, B.bytes, hml, findClass_of_methodNamed B.named, hts⟩, hK⟩ B.returns B.notSynchronized hP hl
section CROWS
variable {p : Program} {l : Launch} {e : Env} {R : Room} {s : State} {m : MethodId} {args : Array Value} {below : List Frame} {meth : Method} {c : Code} {H : Heap} {locs : List Loc} {cells slots : Nat} {Q : State → Prop}
variable {cc : ByteArray} {pc nL : Nat} {ls : Array Slot} {rest : List Value} {D : va_G} {dB dI : ClassId} {A : Nat → Prop} {H0 : Heap}
variable {tys : List (ClassId × FieldType)} {w : va_W} {y : MethodName} {bytes : ByteArray} {maxL idx ci : Nat} {ret : Option FieldType} {rm : Room} {As st fs : List Value} {r : Int32} {own C : String} {b : Nat} {cq : vw_C}
/-- a reading method's end -/
theorem zr_ret {v : Int32} (hx : p.tables.exec = Jvm.exec) (hb : c.code = cc) (hr : meth.sig.returnType = some .int) (hlocks : meth.locks = false) (hv : v = r) (hdg : decode cc pc = .ok (.ireturn, 1)) : W p l e R s m args below meth c s.heap [] 0 0 (MQ below (QcRead r) args s 0 0 (fun _ => False)) (F0 m pc ls [.int v]) := by
  subst hv
  exact W.iret hx hb hr (fun t ht _ => ⟨rfl, ht⟩) (fun q hq => by cases hq) hdg hlocks
theorem zr_zret {v : Int32} (hx : p.tables.exec = Jvm.exec) (hb : c.code = cc) (hr : meth.sig.returnType = some .boolean) (hlocks : meth.locks = false) (hv : v = r) (h01 : v = iZ 0 ∨ v = iZ 1) (hdg : decode cc pc = .ok (.ireturn, 1)) : W p l e R s m args below meth c s.heap [] 0 0 (MQ below (QcRead r) args s 0 0 (fun _ => False)) (F0 m pc ls [.int v]) := by
  subst hv
  refine W.zret (ty := .boolean) hx hb hr ?_ (fun t ht _ => ⟨rfl, ht⟩) (fun q hq => by cases hq) hdg hlocks
  rcases h01 with q | q <;> (rw [q]; rfl)
/-- a call of a reading method -/
theorem zr_callV (S : CallFix p m c cc nL s args lw_all own) (hM : RO l y bytes maxL ret rm D tys w (.ref b :: As) r) (hg : GoodIn lw_all (wsV own idx C y (ws_ y bytes maxL ret)))
    (hd : y.cls = C ∧ y.cls ≠ "java/lang/invoke/MethodHandle" ∧ y.cls ≠ "java/lang/invoke/VarHandle" ∧ (parseMethodDescriptor y.desc).map (fun d => d.parameters.length) = some As.length) (hR : (rm.cells = 0 ∧ rm.slots = 0) ∧ rm.frames + 1 ≤ R.frames ∧ 8 + (maxL + 11) + rm.locals ≤ R.locals)
    (hK : va_K D vwCl tys s) (hP : va_P D vwCl w H) (he : w[0]? = some (b, .inr (ci, fs))) (hc : vwCl[ci]? = some cq) (hC : cq.1 = C) (hsz : ls.size = nL) (hst : st = As.reverse ++ .ref b :: rest) (hrest : (rest.map fun v => v.category).sum ≤ 8) (hdg : decode cc pc = .ok (.invokevirtual idx, 3)) (hcs : cells ≤ R.cells ∧ slots ≤ R.slots)
    (kk : W p l e R s m args below meth c H locs cells slots Q (F0 m (pc + 3) ls (.int r :: rest))) : W p l e R s m args below meth c H locs cells slots Q (F0 m pc ls st) := by
  refine W.callR (W.runV (As := As) (rest := rest) (b := b) (C := C) S hM (cwV As.length S.2.2.2.2 hg rfl hR.1.1 hR.1.2 hd hR.2) ⟨?_, ?_, ?_⟩ rfl rfl hsz hst (lv_room hrest) hdg ⟨by rw [Nat.add_zero]; exact hcs.1, by rw [Nat.add_zero]; exact hcs.2⟩) kk
  · rintro a U g mk ⟨q0, q1, q2⟩
    exact ⟨q0, q1, va_K.moved (u := U) (U := U.calling g mk a) (Vm.Alike.refl U.vm) q2⟩
  · rw [← hC]
    exact va_recv hK hP hc he
  · intro U hU hW
    exact ⟨rfl, by rw [hU]; exact hP, va_K.moved hW.alike hK⟩
/-- a call of a static reading method -/
theorem zr_callS (S : CallFix p m c cc nL s args lw_all own) (hM : RO l y bytes maxL ret rm D tys w As r) (hg : GoodIn lw_all (va_wsS own idx y (ws_ y bytes maxL ret)))
    (hd : y.cls ≠ "java/lang/invoke/MethodHandle" ∧ y.cls ≠ "java/lang/invoke/VarHandle" ∧ (parseMethodDescriptor y.desc).map (fun d => d.parameters.length) = some As.length) (hR : (rm.cells = 0 ∧ rm.slots = 0) ∧ rm.frames + 1 ≤ R.frames ∧ 8 + (maxL + 11) + rm.locals ≤ R.locals)
    (hK : va_K D vwCl tys s) (hP : va_P D vwCl w H) (hsz : ls.size = nL) (hst : st = As.reverse ++ rest) (hrest : (rest.map fun v => v.category).sum ≤ 8) (hdg : decode cc pc = .ok (.invokestatic idx, 3)) (hcs : cells ≤ R.cells ∧ slots ≤ R.slots)
    (kk : W p l e R s m args below meth c H locs cells slots Q (F0 m (pc + 3) ls (.int r :: rest))) : W p l e R s m args below meth c H locs cells slots Q (F0 m pc ls st) := by
  refine W.callR (W.runS (As := As) (rest := rest) S hM (va_cwS As.length S.2.2.2.2 hg rfl hR.1.1 hR.1.2 hd hR.2) ⟨?_, ?_⟩ rfl rfl hsz hst (lv_room hrest) hdg ⟨by rw [Nat.add_zero]; exact hcs.1, by rw [Nat.add_zero]; exact hcs.2⟩) kk
  · rintro a U g mk ⟨q0, q1, q2⟩
    exact ⟨q0, q1, va_K.moved (u := U) (U := U.calling g mk a) (Vm.Alike.refl U.vm) q2⟩
  · intro U hU hW
    exact ⟨rfl, by rw [hU]; exact hP, va_K.moved hW.alike hK⟩
end CROWS
/-- the method may write its object's cells: from the picture u0 it comes to a picture u with 'post answer u' -/
abbrev wrP {σ : Type} (D : va_G) (tys : List (ClassId × FieldType)) (w : σ → va_W) (u0 : σ) (sz : Nat) (As : List Value) : Array Value → State → Prop := va_Pc As (fun U => U.heap.size = sz ∧ va_P D vwCl (w u0) U.heap ∧ va_K D vwCl tys U ∧ va_D (fun _ => True) (w u0))
def WRi {σ : Type} (l : Launch) (y : MethodName) (bytes : ByteArray) (nL : Nat) (ret : Option FieldType) (rm : Room) (D : va_G) (tys : List (ClassId × FieldType)) (w : σ → va_W) (u0 : σ) (As : List Value) (post : Int32 → σ → Prop) : Prop := ∀ sz : Nat, Met l y (ws_ y bytes nL ret) rm (wrP D tys w u0 sz As) (va_Qi post (fun u t => va_P D vwCl (w u) t.heap) (va_A (w u0) sz)) 0 0 (va_A (w u0) sz)
def WRv {σ : Type} (l : Launch) (y : MethodName) (bytes : ByteArray) (nL : Nat) (rm : Room) (D : va_G) (tys : List (ClassId × FieldType)) (w : σ → va_W) (u0 : σ) (As : List Value) (post : σ → Prop) : Prop := ∀ sz : Nat, Met l y (ws_ y bytes nL none) rm (wrP D tys w u0 sz As) (va_Qv post (fun u t => va_P D vwCl (w u) t.heap) (va_A (w u0) sz)) 0 0 (va_A (w u0) sz)
theorem wr_D {σ : Type} {w : σ → va_W} {u0 : σ} {sz : Nat} (hadr : ∀ u, (w u0).map (fun q => q.1) = (w u).map (fun q => q.1)) (h : va_D (fun _ => True) (w u0)) : ∀ u, va_D (va_A (w u0) sz) (w u) := fun u => vd_map (hadr u) h.self
theorem WRi.mk {σ : Type} {l : Launch} {y : MethodName} {bytes : ByteArray} {nL : Nat} {ret : Option FieldType} {rm : Room} {D : va_G} {tys : List (ClassId × FieldType)} {w : σ → va_W} {u0 : σ} {As : List Value} {post : Int32 → σ → Prop} (hy : plainName y.cls = true) (hlen : (lg_sl As).length ≤ nL) (hadr : ∀ u, (w u0).map (fun q => q.1) = (w u).map (fun q => q.1))
    (body : ∀ (p : Program) (e : Env) (s : State) (m : MethodId) (below : List Frame) (meth : Method) (c : Code) (ls : Array Slot) (A : Nat → Prop), CallFix p m c bytes nL s As.toArray lw_all y.cls ∧ va_K D vwCl tys s → meth.sig.returnType = ret → meth.locks = false → (∀ q, s.heap.size ≤ q → A q) → (∀ u, va_D A (w u)) → va_S A s.heap s.heap [] → va_P D vwCl (w u0) s.heap → lv_has ls nL (lv_args 0 As) → W p l e rm s m As.toArray below meth c s.heap [] 0 0 (MQ below (va_Qi post (fun u t => va_P D vwCl (w u) t.heap) A) As.toArray s 0 0 A) (F0 m 0 ls [])) : WRi l y bytes nL ret rm D tys w u0 As post := by
  intro sz
  refine Met.ofW (cc := bytes) (maxL := nL) (ret := ret) hy rfl ?_
  intro p e s m args below meth c s₁ B hml hv
  obtain ⟨rfl, hsz, hP, hK, hD⟩ := hv
  subst hsz
  have hts := atoms_spec (ws := ws_ y bytes nL ret) B.pre
  have hts : ∀ w ∈ lw_all, w.before As.toArray s = true := fun w h => hts w (List.mem_cons_of_mem _ h)
  have hl := lv_entry As (n := nL) hlen
  rw [lg_entry_eq]
  generalize (lg_sl As ++ List.replicate (nL - (lg_sl As).length) Slot.unset).toArray = ls at hl ⊢
  exact body p e s m below meth c ls _ ⟨⟨B.exec, B.bytes, hml, findClass_of_methodNamed B.named, hts⟩, hK⟩ B.returns B.notSynchronized (fun q h => Or.inr h) (wr_D hadr hD) va_S.rf hP hl
theorem WRv.mk {σ : Type} {l : Launch} {y : MethodName} {bytes : ByteArray} {nL : Nat} {rm : Room} {D : va_G} {tys : List (ClassId × FieldType)} {w : σ → va_W} {u0 : σ} {As : List Value} {post : σ → Prop} (hy : plainName y.cls = true) (hlen : (lg_sl As).length ≤ nL) (hadr : ∀ u, (w u0).map (fun q => q.1) = (w u).map (fun q => q.1))
    (body : ∀ (p : Program) (e : Env) (s : State) (m : MethodId) (below : List Frame) (meth : Method) (c : Code) (ls : Array Slot) (A : Nat → Prop), CallFix p m c bytes nL s As.toArray lw_all y.cls ∧ va_K D vwCl tys s → meth.sig.returnType = none → meth.locks = false → (∀ q, s.heap.size ≤ q → A q) → (∀ u, va_D A (w u)) → va_S A s.heap s.heap [] → va_P D vwCl (w u0) s.heap → lv_has ls nL (lv_args 0 As) → W p l e rm s m As.toArray below meth c s.heap [] 0 0 (MQ below (va_Qv post (fun u t => va_P D vwCl (w u) t.heap) A) As.toArray s 0 0 A) (F0 m 0 ls [])) : WRv l y bytes nL rm D tys w u0 As post := by
  intro sz
  refine Met.ofW (cc := bytes) (maxL := nL) (ret := none) hy rfl ?_
  intro p e s m args below meth c s₁ B hml hv
  obtain ⟨rfl, hsz, hP, hK, hD⟩ := hv
  subst hsz
  have hts := atoms_spec (ws := ws_ y bytes nL none) B.pre
  have hts : ∀ w ∈ lw_all, w.before As.toArray s = true := fun w h => hts w (List.mem_cons_of_mem _ h)
  have hl := lv_entry As (n := nL) hlen
  rw [lg_entry_eq]
  generalize (lg_sl As ++ List.replicate (nL - (lg_sl As).length) Slot.unset).toArray = ls at hl ⊢
  exact body p e s m below meth c ls _ ⟨⟨B.exec, B.bytes, hml, findClass_of_methodNamed B.named, hts⟩, hK⟩ B.returns B.notSynchronized (fun q h => Or.inr h) (wr_D hadr hD) va_S.rf hP hl
section WCROWS
variable {p : Program} {l : Launch} {e : Env} {R : Room} {s : State} {m : MethodId} {args : Array Value} {below : List Frame} {meth : Method} {c : Code} {H : Heap} {locs : List Loc} {cells slots : Nat} {Q : State → Prop}
variable {cc : ByteArray} {pc nL : Nat} {ls : Array Slot} {rest : List Value} {D : va_G} {dB dI : ClassId} {A : Nat → Prop} {H0 : Heap}
variable {σ : Type} {tys : List (ClassId × FieldType)} {w : σ → va_W} {u0 : σ} {y : MethodName} {bytes : ByteArray} {maxL idx ci : Nat} {ret : Option FieldType} {rm : Room} {As st fs : List Value} {own C : String} {b : Nat} {cq : vw_C} {post : Int32 → σ → Prop} {postv : σ → Prop}
theorem wr_ret {v : Int32} (hx : p.tables.exec = Jvm.exec) (hb : c.code = cc) (hr : meth.sig.returnType = some .int) (hlocks : meth.locks = false) (hS : va_S A s.heap H locs) (u : σ) (hP : va_P D vwCl (w u) H) (hp : post v u) (hdg : decode cc pc = .ok (.ireturn, 1)) : W p l e R s m args below meth c H locs 0 0 (MQ below (va_Qi post (fun u t => va_P D vwCl (w u) t.heap) A) args s 0 0 A) (F0 m pc ls [.int v]) :=
  W.iret hx hb hr (fun t ht _ => ⟨⟨v, u, rfl, hp, by show va_P D vwCl (w u) t.heap; rw [ht]; exact hP⟩, hS.F ht⟩) hS.2.2 hdg hlocks
theorem wr_zret {v : Int32} (hx : p.tables.exec = Jvm.exec) (hb : c.code = cc) (hr : meth.sig.returnType = some .boolean) (hlocks : meth.locks = false) (hS : va_S A s.heap H locs) (u : σ) (hP : va_P D vwCl (w u) H) (hp : post v u) (h01 : v = iZ 0 ∨ v = iZ 1) (hdg : decode cc pc = .ok (.ireturn, 1)) : W p l e R s m args below meth c H locs 0 0 (MQ below (va_Qi post (fun u t => va_P D vwCl (w u) t.heap) A) args s 0 0 A) (F0 m pc ls [.int v]) :=
  W.zret (ty := .boolean) hx hb hr (by rcases h01 with q | q <;> (rw [q]; rfl)) (fun t ht _ => ⟨⟨v, u, rfl, hp, by show va_P D vwCl (w u) t.heap; rw [ht]; exact hP⟩, hS.F ht⟩) hS.2.2 hdg hlocks
theorem wr_vret (hx : p.tables.exec = Jvm.exec) (hb : c.code = cc) (hr : meth.sig.returnType = none) (hlocks : meth.locks = false) (hS : va_S A s.heap H locs) (u : σ) (hP : va_P D vwCl (w u) H) (hp : postv u) (hdg : decode cc pc = .ok (.return_, 1)) : W p l e R s m args below meth c H locs 0 0 (MQ below (va_Qv postv (fun u t => va_P D vwCl (w u) t.heap) A) args s 0 0 A) (F0 m pc ls []) :=
  W.vret hx hb hr (fun t ht _ => ⟨⟨u, rfl, hp, by show va_P D vwCl (w u) t.heap; rw [ht]; exact hP⟩, hS.F ht⟩) hS.2.2 hdg hlocks
/-- which cells a callee may change are the caller's to change -/
theorem wr_free (hD : va_D A (w u0)) (hS : va_S A H0 H locs) (hA : ∀ q, H0.size ≤ q → A q) : ∀ q, va_A (w u0) H.size q → A q := by
  intro q hq
  rcases hq with ⟨k, e, hk⟩ | hq
  · exact hD.2 k (q, e) hk
  · exact hA q (Nat.le_trans hS.1 hq)
theorem wr_pre (hK : va_K D vwCl tys s) (hP : va_P D vwCl (w u0) H) (hD : va_D A (w u0)) (he : (w u0)[0]? = some (b, .inr (ci, fs))) (hc : vwCl[ci]? = some cq) (hC : cq.1 = C) : PreV s H C b (wrP D tys w u0 H.size (.ref b :: As)) As := by
  refine ⟨?_, ?_, ?_⟩
  · rintro a U g mk ⟨q0, q1, q2, q3, q4⟩
    exact ⟨q0, q1, q2, va_K.moved (u := U) (U := U.calling g mk a) (Vm.Alike.refl U.vm) q3, q4⟩
  · rw [← hC]
    exact va_recv hK hP hc he
  · intro U hU hW
    exact ⟨rfl, by rw [hU], by rw [hU]; exact hP, va_K.moved hW.alike hK, hD.weaken (fun _ _ _ _ => trivial)⟩
theorem wr_calli (S : CallFix p m c cc nL s args lw_all own) (hM : WRi l y bytes maxL ret rm D tys w u0 (.ref b :: As) post) (hg : GoodIn lw_all (wsV own idx C y (ws_ y bytes maxL ret)))
    (hd : y.cls = C ∧ y.cls ≠ "java/lang/invoke/MethodHandle" ∧ y.cls ≠ "java/lang/invoke/VarHandle" ∧ (parseMethodDescriptor y.desc).map (fun d => d.parameters.length) = some As.length) (hR : (rm.cells = 0 ∧ rm.slots = 0) ∧ rm.frames + 1 ≤ R.frames ∧ 8 + (maxL + 11) + rm.locals ≤ R.locals)
    (hK : va_K D vwCl tys s) (hP : va_P D vwCl (w u0) H) (hD : va_D A (w u0)) (hS : va_S A H0 H locs) (hA : ∀ q, H0.size ≤ q → A q) (he : (w u0)[0]? = some (b, .inr (ci, fs))) (hc : vwCl[ci]? = some cq) (hC : cq.1 = C) (hsz : ls.size = nL) (hst : st = As.reverse ++ .ref b :: rest) (hrest : (rest.map fun v => v.category).sum ≤ 8) (hdg : decode cc pc = .ok (.invokevirtual idx, 3)) (hcs : cells ≤ R.cells ∧ slots ≤ R.slots)
    (kk : ∀ (r : Int32) (u : σ) (H1 : Heap) (locs1 : List Loc), post r u → va_P D vwCl (w u) H1 → (∀ q : Nat, q < H.size → ¬ va_A (w u0) H.size q → H1[q]? = H[q]?) → va_S A H0 H1 locs1 → W p l e R s m args below meth c H1 locs1 cells slots Q (F0 m (pc + 3) ls (.int r :: rest))) : W p l e R s m args below meth c H locs cells slots Q (F0 m pc ls st) := by
  have hF := wr_free hD hS hA
  refine va_calli (va_runV (As := As) (rest := rest) (b := b) (C := C) S (hM H.size) (cwV As.length S.2.2.2.2 hg rfl hR.1.1 hR.1.2 hd hR.2) (wr_pre hK hP hD he hc hC) rfl rfl hsz hst (lv_room hrest) hdg ⟨by rw [Nat.add_zero]; exact hcs.1, by rw [Nat.add_zero]; exact hcs.2⟩) hS (fun q _ h => hF q h) hF (fun r u t H1 locs1 ht hvm hp hB hz hk hS1 => ?_)
  rw [ht] at hB
  exact kk r u H1 locs1 hp hB hk hS1
theorem wr_callv (S : CallFix p m c cc nL s args lw_all own) (hM : WRv l y bytes maxL rm D tys w u0 (.ref b :: As) postv) (hg : GoodIn lw_all (wsV own idx C y (ws_ y bytes maxL none)))
    (hd : y.cls = C ∧ y.cls ≠ "java/lang/invoke/MethodHandle" ∧ y.cls ≠ "java/lang/invoke/VarHandle" ∧ (parseMethodDescriptor y.desc).map (fun d => d.parameters.length) = some As.length) (hR : (rm.cells = 0 ∧ rm.slots = 0) ∧ rm.frames + 1 ≤ R.frames ∧ 8 + (maxL + 11) + rm.locals ≤ R.locals)
    (hK : va_K D vwCl tys s) (hP : va_P D vwCl (w u0) H) (hD : va_D A (w u0)) (hS : va_S A H0 H locs) (hA : ∀ q, H0.size ≤ q → A q) (he : (w u0)[0]? = some (b, .inr (ci, fs))) (hc : vwCl[ci]? = some cq) (hC : cq.1 = C) (hsz : ls.size = nL) (hst : st = As.reverse ++ .ref b :: rest) (hrest : (rest.map fun v => v.category).sum ≤ 8) (hdg : decode cc pc = .ok (.invokevirtual idx, 3)) (hcs : cells ≤ R.cells ∧ slots ≤ R.slots)
    (kk : ∀ (u : σ) (H1 : Heap) (locs1 : List Loc), postv u → va_P D vwCl (w u) H1 → va_S A H0 H1 locs1 → W p l e R s m args below meth c H1 locs1 cells slots Q (F0 m (pc + 3) ls rest)) : W p l e R s m args below meth c H locs cells slots Q (F0 m pc ls st) := by
  have hF := wr_free hD hS hA
  refine va_callv (va_runV (As := As) (rest := rest) (b := b) (C := C) S (hM H.size) (cwV As.length S.2.2.2.2 hg rfl hR.1.1 hR.1.2 hd hR.2) (wr_pre hK hP hD he hc hC) rfl rfl hsz hst (lv_room hrest) hdg ⟨by rw [Nat.add_zero]; exact hcs.1, by rw [Nat.add_zero]; exact hcs.2⟩) hS (fun q _ h => hF q h) hF (fun u t H1 locs1 ht hvm hp hB hz hk hS1 => ?_)
  rw [ht] at hB
  exact kk u H1 locs1 hp hB hS1
end WCROWS
/-- the component's picture as one thing -/
abbrev XS : Type := Par × Pri
abbrev wXu (dB dI : ClassId) (h : Nat → Nat) : XS → va_W := fun u => wX dB dI h u.1 u.2
theorem wXu_adr (dB dI : ClassId) (h : Nat → Nat) (u0 : XS) : ∀ u, (wXu dB dI h u0).map (fun q => q.1) = (wXu dB dI h u).map (fun q => q.1) := fun _ => rfl
theorem wM_adr (dI : ClassId) (h : Nat → Nat) (S0 : Par) : ∀ S, (wM dI h S0).map (fun q => q.1) = (wM dI h S).map (fun q => q.1) := fun _ => rfl
theorem wX_0 (dB dI : ClassId) (h : Nat → Nat) (S : Par) (T : Pri) : (wX dB dI h S T)[0]? = some (h 0, .inr (0, [.int (iZ S.w), .int (iZ S.e), .ref (h 1), .ref (h 2), .int (iZ (S.c : Int)), .int (iZ T.b), .ref (h 3), .ref (h 4), .ref (h 5), .ref (h 6)])) := rfl
theorem wM_0 (dI : ClassId) (h : Nat → Nat) (S : Par) : (wM dI h S)[0]? = some (h 0, .inr (1, [.int (iZ S.w), .int (iZ S.e), .int (iZ (S.c : Int)), .ref (h 1), .ref (h 2)])) := rfl
end
section
/-! THE COMPONENT's reading methods -/
def pb_okI (a b : Int) : Int := if 1 ≤ a ∧ a ≤ 12 ∧ -40 ≤ b ∧ b ≤ 40 then 1 else 0
theorem th_lo_low {L R : Nat → Int} {p k : Nat} (h : ∀ q, p < q → q ≤ p + k → -40 ≤ L q ∧ -400 ≤ R q) : -440 ≤ pb_lo L R p k := by
  by_cases hf : pb_lo L R p k < 1000000
  · obtain ⟨q, a, b, _, _, e⟩ := th_lo_at hf
    have := h q a b
    omega
  · omega
theorem zr_incN {p : Program} {l : Launch} {e : Env} {R : Room} {s : State} {m : MethodId} {args : Array Value} {below : List Frame} {meth : Method} {c : Code} {H : Heap} {locs : List Loc} {cells slots : Nat} {Q : State → Prop} {cc : ByteArray} {pc : Nat} {ls : Array Slot} {rest : List Value} (hx : p.tables.exec = Jvm.exec) (hb : c.code = cc) {i nL z : Nat} {lv lv' : List (Nat × Value)} (hdg : decode cc pc = .ok (.iinc i 1, 3)) (h : lv_has ls nL lv) (k : Nat) (hk : lv[k]? = some (i, .int (iZ ((z : Nat) : Int)))) (hn : i < nL) (hl : (i, Value.int (iZ ((z + 1 : Nat) : Int))) :: lv.filter (fun q => !(q.1 == i) && !(q.1 + 1 == i && q.2.category == 2)) = lv')
    (kk : ∀ ls' : Array Slot, lv_has ls' nL lv' → W p l e R s m args below meth c H locs cells slots Q (F0 m (pc + 3) ls' rest)) : W p l e R s m args below meth c H locs cells slots Q (F0 m pc ls rest) := zr_inc hx hb hdg h k hk hn (by rw [← hl]; rfl) kk
theorem hd_X1_wordOk : yX1_wordOk.cls ≠ "java/lang/invoke/MethodHandle" ∧ yX1_wordOk.cls ≠ "java/lang/invoke/VarHandle" ∧ (parseMethodDescriptor yX1_wordOk.desc).map (fun d => d.parameters.length) = some 2 := by decide +kernel
theorem hd_X1_length : yX1_length.cls = RX1 ∧ yX1_length.cls ≠ "java/lang/invoke/MethodHandle" ∧ yX1_length.cls ≠ "java/lang/invoke/VarHandle" ∧ (parseMethodDescriptor yX1_length.desc).map (fun d => d.parameters.length) = some 2 := by decide +kernel
theorem hd_X1_penalised : yX1_penalised.cls = RX1 ∧ yX1_penalised.cls ≠ "java/lang/invoke/MethodHandle" ∧ yX1_penalised.cls ≠ "java/lang/invoke/VarHandle" ∧ (parseMethodDescriptor yX1_penalised.desc).map (fun d => d.parameters.length) = some 1 := by decide +kernel
theorem hd_X1_lineCost : yX1_lineCost.cls = RX1 ∧ yX1_lineCost.cls ≠ "java/lang/invoke/MethodHandle" ∧ yX1_lineCost.cls ≠ "java/lang/invoke/VarHandle" ∧ (parseMethodDescriptor yX1_lineCost.desc).map (fun d => d.parameters.length) = some 2 := by decide +kernel
theorem hd_X1_leastOnward : yX1_leastOnward.cls = RX1 ∧ yX1_leastOnward.cls ≠ "java/lang/invoke/MethodHandle" ∧ yX1_leastOnward.cls ≠ "java/lang/invoke/VarHandle" ∧ (parseMethodDescriptor yX1_leastOnward.desc).map (fun d => d.parameters.length) = some 2 := by decide +kernel
theorem hd_X1_fewestLines : yX1_fewestLines.cls = RX1 ∧ yX1_fewestLines.cls ≠ "java/lang/invoke/MethodHandle" ∧ yX1_fewestLines.cls ≠ "java/lang/invoke/VarHandle" ∧ (parseMethodDescriptor yX1_fewestLines.desc).map (fun d => d.parameters.length) = some 0 := by decide +kernel
theorem hd_X1_firstEnd : yX1_firstEnd.cls = RX1 ∧ yX1_firstEnd.cls ≠ "java/lang/invoke/MethodHandle" ∧ yX1_firstEnd.cls ≠ "java/lang/invoke/VarHandle" ∧ (parseMethodDescriptor yX1_firstEnd.desc).map (fun d => d.parameters.length) = some 2 := by decide +kernel
theorem hd_X1_findBest : yX1_findBest.cls = RX1 ∧ yX1_findBest.cls ≠ "java/lang/invoke/MethodHandle" ∧ yX1_findBest.cls ≠ "java/lang/invoke/VarHandle" ∧ (parseMethodDescriptor yX1_findBest.desc).map (fun d => d.parameters.length) = some 1 := by decide +kernel
theorem hd_X1_learn : yX1_learn.cls = RX1 ∧ yX1_learn.cls ≠ "java/lang/invoke/MethodHandle" ∧ yX1_learn.cls ≠ "java/lang/invoke/VarHandle" ∧ (parseMethodDescriptor yX1_learn.desc).map (fun d => d.parameters.length) = some 0 := by decide +kernel
theorem hd_X1_start : yX1_start.cls = RX1 ∧ yX1_start.cls ≠ "java/lang/invoke/MethodHandle" ∧ yX1_start.cls ≠ "java/lang/invoke/VarHandle" ∧ (parseMethodDescriptor yX1_start.desc).map (fun d => d.parameters.length) = some 0 := by decide +kernel
theorem hd_X1_endOfLine : yX1_endOfLine.cls = RX1 ∧ yX1_endOfLine.cls ≠ "java/lang/invoke/MethodHandle" ∧ yX1_endOfLine.cls ≠ "java/lang/invoke/VarHandle" ∧ (parseMethodDescriptor yX1_endOfLine.desc).map (fun d => d.parameters.length) = some 1 := by decide +kernel
theorem hd_X1_findUpTo : yX1_findUpTo.cls = RX1 ∧ yX1_findUpTo.cls ≠ "java/lang/invoke/MethodHandle" ∧ yX1_findUpTo.cls ≠ "java/lang/invoke/VarHandle" ∧ (parseMethodDescriptor yX1_findUpTo.desc).map (fun d => d.parameters.length) = some 0 := by decide +kernel
theorem hd_X1_lines : yX1_lines.cls = RX1 ∧ yX1_lines.cls ≠ "java/lang/invoke/MethodHandle" ∧ yX1_lines.cls ≠ "java/lang/invoke/VarHandle" ∧ (parseMethodDescriptor yX1_lines.desc).map (fun d => d.parameters.length) = some 0 := by decide +kernel
set_option maxHeartbeats 4000000 in
set_option maxRecDepth 100000 in
/-- wordOk(a, b) -/
theorem mX_wordOk (l : Launch) (D : va_G) (dB dI : ClassId) (h : Nat → Nat) (S : Par) (T : Pri) (a b : Int) (ha : Rng a) (hb0 : Rng b) : RO l yX1_wordOk cX1_wordOk 2 (some .boolean) ({ frames := 0, cells := 0, slots := 0, locals := 0 }) D (tyA dB dI) (wX dB dI h S T) [.int (iZ (a)), .int (iZ (b))] (iZ (pb_okI a b)) := by
  refine RO.mk (by decide) (Nat.le_of_ble_eq_true rfl) ?_
  intro pr e s m below meth c ls G hr hlocks hP hl
  have G : CX pr m c cX1_wordOk 2 s _ D dB dI := G
  have hx := G.1.1
  have hb := G.1.2.1
  have hl : lv_has ls 2 [(0, .int (iZ (a))), (1, .int (iZ (b)))] := hl
  unfold Rng at ha hb0
  refine lv_iload_n hx hb dX1_wordOk_0 rfl (lv_at hl 0 rfl) ?_
  refine zr_const hx hb dX1_wordOk_1 ?_
  refine zr_icmp_lt (tgt := 27) hx hb dX1_wordOk_2 (by decide) (by unfold Rng; omega) (fun c_2 => ?_) (fun c_2 => ?_)
  · refine zr_const hx hb dX1_wordOk_27 ?_
    exact zr_zret hx hb hr hlocks (by rw [show pb_okI a b = 0 from by unfold pb_okI; rw [if_neg (by omega)]]) (Or.inl rfl) dX1_wordOk_28
  · refine lv_iload_n hx hb dX1_wordOk_5 rfl (lv_at hl 0 rfl) ?_
    refine zr_bipush hx hb dX1_wordOk_6 (by decide) ?_
    refine zr_icmp_gt (tgt := 27) hx hb dX1_wordOk_8 (by decide) (by unfold Rng; omega) (fun c_8 => ?_) (fun c_8 => ?_)
    · refine zr_const hx hb dX1_wordOk_27 ?_
      exact zr_zret hx hb hr hlocks (by rw [show pb_okI a b = 0 from by unfold pb_okI; rw [if_neg (by omega)]]) (Or.inl rfl) dX1_wordOk_28
    · refine lv_iload_n hx hb dX1_wordOk_11 rfl (lv_at hl 1 rfl) ?_
      refine zr_bipush hx hb dX1_wordOk_12 (by decide) ?_
      refine zr_icmp_lt (tgt := 27) hx hb dX1_wordOk_14 (by decide) (by unfold Rng; omega) (fun c_14 => ?_) (fun c_14 => ?_)
      · refine zr_const hx hb dX1_wordOk_27 ?_
        exact zr_zret hx hb hr hlocks (by rw [show pb_okI a b = 0 from by unfold pb_okI; rw [if_neg (by omega)]]) (Or.inl rfl) dX1_wordOk_28
      · refine lv_iload_n hx hb dX1_wordOk_17 rfl (lv_at hl 1 rfl) ?_
        refine zr_bipush hx hb dX1_wordOk_18 (by decide) ?_
        refine zr_icmp_gt (tgt := 27) hx hb dX1_wordOk_20 (by decide) (by unfold Rng; omega) (fun c_20 => ?_) (fun c_20 => ?_)
        · refine zr_const hx hb dX1_wordOk_27 ?_
          exact zr_zret hx hb hr hlocks (by rw [show pb_okI a b = 0 from by unfold pb_okI; rw [if_neg (by omega)]]) (Or.inl rfl) dX1_wordOk_28
        · refine zr_const hx hb dX1_wordOk_23 ?_
          refine lv_goto (tgt := 28) hx hb dX1_wordOk_24 (by decide) ?_
          exact zr_zret hx hb hr hlocks (by rw [show pb_okI a b = 1 from by unfold pb_okI; rw [if_pos (by omega)]]) (Or.inr rfl) dX1_wordOk_28
set_option maxHeartbeats 4000000 in
set_option maxRecDepth 100000 in
/-- length(p, q) -/
theorem mX_length (l : Launch) (D : va_G) (dB dI : ClassId) (h : Nat → Nat) (S : Par) (T : Pri) (p q : Nat) (hpq : p ≤ q) (hq : q ≤ 10) : RO l yX1_length cX1_length 5 (some .int) ({ frames := 0, cells := 0, slots := 0, locals := 0 }) D (tyA dB dI) (wX dB dI h S T) [.ref (h 0), .int (iZ ((p : Int))), .int (iZ ((q : Int)))] (iZ (pb_len S p q)) := by
  refine RO.mk (by decide) (Nat.le_of_ble_eq_true rfl) ?_
  intro pr e s m below meth c ls G hr hlocks hP hl
  have G : CX pr m c cX1_length 5 s _ D dB dI := G
  have hx := G.1.1
  have hb := G.1.2.1
  have hl : lv_has ls 5 [(0, .ref (h 0)), (1, .int (iZ ((p : Int)))), (2, .int (iZ ((q : Int))))] := hl
  refine lv_iload_n hx hb dX1_length_0 rfl (lv_at hl 2 rfl) ?_
  refine lv_iload_n hx hb dX1_length_1 rfl (lv_at hl 1 rfl) ?_
  refine zr_sub hx hb dX1_length_2 ?_
  refine zr_const hx hb dX1_length_3 ?_
  refine zr_sub hx hb dX1_length_4 ?_
  refine zr_const hx hb dX1_length_5 ?_
  refine zr_mul hx hb dX1_length_6 ?_
  refine zr_eq (y := ((q : Int) - (p : Int) - 1) * 2 + pb_sm S.W p (p - p)) (by rw [Nat.sub_self]; simp [pb_sm]) ?_
  refine lv_istore_n (lv' := [(3, .int (iZ (((q : Int) - (p : Int) - 1) * 2 + pb_sm S.W p (p - p)))), (0, .ref (h 0)), (1, .int (iZ ((p : Int)))), (2, .int (iZ ((q : Int))))]) hx hb dX1_length_7 rfl hl (by decide) rfl (fun ls hl => ?_)
  refine lv_iload_n hx hb dX1_length_8 rfl (lv_at hl 2 rfl) ?_
  refine lv_istore (lv' := [(4, .int (iZ ((p : Int)))), (3, .int (iZ (((q : Int) - (p : Int) - 1) * 2 + pb_sm S.W p (p - p)))), (0, .ref (h 0)), (1, .int (iZ ((p : Int)))), (2, .int (iZ ((q : Int))))]) hx hb dX1_length_9 hl (by decide) rfl (fun ls hl => ?_)
  refine zr_loop (pc := 11) (nL := 5) q (fun i => [(4, .int (iZ ((i : Nat) : Int))), (3, .int (iZ (((q : Int) - (p : Int) - 1) * 2 + pb_sm S.W p (i - p)))), (0, .ref (h 0)), (1, .int (iZ (p : Int))), (2, .int (iZ (q : Int)))]) (fun i => p ≤ i) ?_ p ls hpq (Nat.le_refl p) (lv_sub hl [0, 1, 2, 3, 4] rfl)
  intro i ls hi hpi hl ih
  have hl : lv_has ls 5 [(4, .int (iZ ((i : Nat) : Int))), (3, .int (iZ (((q : Int) - (p : Int) - 1) * 2 + pb_sm S.W p (i - p)))), (0, .ref (h 0)), (1, .int (iZ (p : Int))), (2, .int (iZ (q : Int)))] := hl
  refine lv_iload hx hb dX1_length_11 (lv_at hl 0 rfl) ?_
  refine lv_iload_n hx hb dX1_length_13 rfl (lv_at hl 4 rfl) ?_
  refine zr_icmp_ge (tgt := 33) hx hb dX1_length_14 (by decide) (by unfold Rng; omega) (fun c_14 => ?_) (fun c_14 => ?_)
  · have hiq : i = q := by omega
    subst hiq
    refine lv_iload_n hx hb dX1_length_33 rfl (lv_at hl 1 rfl) ?_
    exact zr_ret hx hb hr hlocks rfl dX1_length_34
  · refine lv_iload_n hx hb dX1_length_17 rfl (lv_at hl 1 rfl) ?_
    refine lv_aload_n hx hb dX1_length_18 rfl (lv_at hl 2 rfl) ?_
    refine gX_widths G hP dX1_length_19 ?_
    refine lv_iload hx hb dX1_length_22 (lv_at hl 0 rfl) ?_
    refine aX_widths G hP (i) (by omega) (by omega) dX1_length_24 ?_
    refine zr_add hx hb dX1_length_25 ?_
    refine zr_eq (y := ((q : Int) - (p : Int) - 1) * 2 + pb_sm S.W p (i + 1 - p)) (by rw [show i + 1 - p = (i - p) + 1 by omega]; simp only [pb_sm]; rw [show p + (i - p) = i by omega]; omega) ?_
    refine lv_istore_n (lv' := [(3, .int (iZ (((q : Int) - (p : Int) - 1) * 2 + pb_sm S.W p (i + 1 - p)))), (4, .int (iZ (((i : Nat) : Int)))), (0, .ref (h 0)), (1, .int (iZ ((p : Int)))), (2, .int (iZ ((q : Int))))]) hx hb dX1_length_26 rfl hl (by decide) rfl (fun ls hl => ?_)
    refine zr_incN (lv' := [(4, .int (iZ (((i + 1 : Nat) : Int)))), (3, .int (iZ (((q : Int) - (p : Int) - 1) * 2 + pb_sm S.W p (i + 1 - p)))), (0, .ref (h 0)), (1, .int (iZ ((p : Int)))), (2, .int (iZ ((q : Int))))]) hx hb dX1_length_27 hl 1 rfl (by decide) rfl (fun ls hl => ?_)
    refine lv_goto (tgt := 11) hx hb dX1_length_30 (by decide) ?_
    exact ih ls (by omega) (by omega) (lv_sub hl [0, 1, 2, 3, 4] rfl)
set_option maxHeartbeats 4000000 in
set_option maxRecDepth 100000 in
/-- penalised(p) -/
theorem mX_penalised (l : Launch) (D : va_G) (dB dI : ClassId) (h : Nat → Nat) (S : Par) (T : Pri) (hok : pb_Ok S) (p : Nat) (hp : p ≤ 10) : RO l yX1_penalised cX1_penalised 2 (some .boolean) ({ frames := 0, cells := 0, slots := 0, locals := 0 }) D (tyA dB dI) (wX dB dI h S T) [.ref (h 0), .int (iZ ((p : Int)))] (iZ (if pb_pen S p = true then 1 else 0)) := by
  refine RO.mk (by decide) (Nat.le_of_ble_eq_true rfl) ?_
  intro pr e s m below meth c ls G hr hlocks hP hl
  have G : CX pr m c cX1_penalised 2 s _ D dB dI := G
  have hx := G.1.1
  have hb := G.1.2.1
  have hl : lv_has ls 2 [(0, .ref (h 0)), (1, .int (iZ ((p : Int))))] := hl
  have hP40 := hok.2.2.2.2 (p - 1)
  refine lv_iload_n hx hb dX1_penalised_0 rfl (lv_at hl 1 rfl) ?_
  refine zr_if_le (tgt := 19) hx hb dX1_penalised_1 (by decide) (by unfold Rng; omega) (fun c_1 => ?_) (fun c_1 => ?_)
  · refine zr_const hx hb dX1_penalised_19 ?_
    exact zr_zret hx hb hr hlocks (by rw [if_neg (by unfold pb_pen; simp; omega)]) (Or.inl rfl) dX1_penalised_20
  · refine lv_aload_n hx hb dX1_penalised_4 rfl (lv_at hl 0 rfl) ?_
    refine gX_pens G hP dX1_penalised_5 ?_
    refine lv_iload_n hx hb dX1_penalised_8 rfl (lv_at hl 1 rfl) ?_
    refine zr_const hx hb dX1_penalised_9 ?_
    refine zr_sub hx hb dX1_penalised_10 ?_
    refine aX_pens G hP (p - 1) (by omega) (by omega) dX1_penalised_11 ?_
    refine zr_if_le (tgt := 19) hx hb dX1_penalised_12 (by decide) (by unfold Rng; omega) (fun c_12 => ?_) (fun c_12 => ?_)
    · refine zr_const hx hb dX1_penalised_19 ?_
      exact zr_zret hx hb hr hlocks (by rw [if_neg (by unfold pb_pen; simp; omega)]) (Or.inl rfl) dX1_penalised_20
    · refine zr_const hx hb dX1_penalised_15 ?_
      refine lv_goto (tgt := 20) hx hb dX1_penalised_16 (by decide) ?_
      exact zr_zret hx hb hr hlocks (by rw [if_pos (by unfold pb_pen; simp; omega)]) (Or.inr rfl) dX1_penalised_20
set_option maxHeartbeats 4000000 in
set_option maxRecDepth 100000 in
/-- lineCost(p, q) -/
theorem mX_lineCost (l : Launch) (D : va_G) (dB dI : ClassId) (h : Nat → Nat) (S : Par) (T : Pri) (hok : pb_Ok S) (hb0 : -1 ≤ T.b ∧ T.b ≤ 10) (p q : Nat) (hpq : p < q) (hq : q ≤ S.c) : RO l yX1_lineCost cX1_lineCost 6 (some .int) ({ frames := 1, cells := 0, slots := 0, locals := 24 }) D (tyA dB dI) (wX dB dI h S T) [.ref (h 0), .int (iZ ((p : Int))), .int (iZ ((q : Int)))] (iZ (pb_lc S T.b p q)) := by
  refine RO.mk (by decide) (Nat.le_of_ble_eq_true rfl) ?_
  intro pr e s m below meth c ls G hr hlocks hP hl
  have G : CX pr m c cX1_lineCost 6 s _ D dB dI := G
  have hx := G.1.1
  have hb := G.1.2.1
  have hl : lv_has ls 6 [(0, .ref (h 0)), (1, .int (iZ ((p : Int)))), (2, .int (iZ ((q : Int))))] := hl
  have hc10 := hok.2.2.1
  have hlen := th_len_bd hok hpq
  have hw := hok.1
  have hP40 := hok.2.2.2.2 (q - 1)
  refine lv_aload_n hx hb dX1_lineCost_0 rfl (lv_at hl 0 rfl) ?_
  refine gX_width G hP dX1_lineCost_1 ?_
  refine lv_aload_n hx hb dX1_lineCost_4 rfl (lv_at hl 0 rfl) ?_
  refine lv_iload_n hx hb dX1_lineCost_5 rfl (lv_at hl 1 rfl) ?_
  refine lv_iload_n hx hb dX1_lineCost_6 rfl (lv_at hl 2 rfl) ?_
  refine zr_callV (rest := [.int (iZ (S.w))]) (As := [.int (iZ ((p : Int))), .int (iZ ((q : Int)))]) G.1 (mX_length l D dB dI h S T p q (by omega) (by omega)) (lw_V q108 q110 qs4 q21 q111) hd_X1_length ⟨⟨rfl, rfl⟩, Nat.le_of_ble_eq_true rfl, Nat.le_of_ble_eq_true rfl⟩ G.2 hP (wX_0 ..) rfl rfl hl.1 rfl (Nat.le_of_ble_eq_true rfl) dX1_lineCost_7 ⟨Nat.zero_le _, Nat.zero_le _⟩ ?_
  refine zr_sub hx hb dX1_lineCost_10 ?_
  refine zr_name (fun d e_d => ?_)
  refine lv_istore_n (lv' := [(3, .int (iZ (d))), (0, .ref (h 0)), (1, .int (iZ ((p : Int)))), (2, .int (iZ ((q : Int))))]) hx hb dX1_lineCost_11 rfl hl (by decide) rfl (fun ls hl => ?_)
  refine zr_join (α := Unit) (fun _ => F0 m 42 ls []) (fun _ => ¬ (S.w - pb_len S p q < (p : Int) + 1 - (q : Int) ∨ (q < S.c ∧ (q : Int) - 1 = T.b))) (fun J => ?_) (fun _ hnf => ?_)
  · refine lv_iload_n hx hb dX1_lineCost_12 rfl (lv_at hl 0 rfl) ?_
    refine lv_iload_n hx hb dX1_lineCost_13 rfl (lv_at hl 2 rfl) ?_
    refine zr_const hx hb dX1_lineCost_14 ?_
    refine zr_add hx hb dX1_lineCost_15 ?_
    refine lv_iload_n hx hb dX1_lineCost_16 rfl (lv_at hl 3 rfl) ?_
    refine zr_sub hx hb dX1_lineCost_17 ?_
    refine zr_icmp_lt (tgt := 39) hx hb dX1_lineCost_18 (by decide) (by unfold Rng; omega) (fun c_18 => ?_) (fun c_18 => ?_)
    · refine zr_ldc (n := 1000000) hx hb G.1.2.2.2.1 (G.1.2.2.2.2 _ q99) dX1_lineCost_39 (by decide) ?_
      exact zr_ret hx hb hr hlocks (by unfold pb_lc; rw [if_pos (by omega)]) dX1_lineCost_41
    · refine lv_iload_n hx hb dX1_lineCost_21 rfl (lv_at hl 3 rfl) ?_
      refine lv_aload_n hx hb dX1_lineCost_22 rfl (lv_at hl 1 rfl) ?_
      refine gX_count G hP dX1_lineCost_23 ?_
      refine zr_icmp_ge (tgt := 42) hx hb dX1_lineCost_26 (by decide) (by unfold Rng; omega) (fun c_26 => ?_) (fun c_26 => ?_)
      · exact J () (by omega)
      · refine lv_iload_n hx hb dX1_lineCost_29 rfl (lv_at hl 3 rfl) ?_
        refine zr_const hx hb dX1_lineCost_30 ?_
        refine zr_sub hx hb dX1_lineCost_31 ?_
        refine lv_aload_n hx hb dX1_lineCost_32 rfl (lv_at hl 1 rfl) ?_
        refine gX_barred G hP dX1_lineCost_33 ?_
        refine zr_icmp_ne (tgt := 42) hx hb dX1_lineCost_36 (by decide) (by unfold Rng; omega) (fun c_36 => ?_) (fun c_36 => ?_)
        · exact J () (by omega)
        · refine zr_ldc (n := 1000000) hx hb G.1.2.2.2.1 (G.1.2.2.2.2 _ q99) dX1_lineCost_39 (by decide) ?_
          exact zr_ret hx hb hr hlocks (by unfold pb_lc; rw [if_pos (by omega)]) dX1_lineCost_41
  · refine lv_iload_n hx hb dX1_lineCost_42 rfl (lv_at hl 3 rfl) ?_
    refine lv_aload_n hx hb dX1_lineCost_43 rfl (lv_at hl 1 rfl) ?_
    refine gX_count G hP dX1_lineCost_44 ?_
    refine zr_icmp_ne (tgt := 64) hx hb dX1_lineCost_47 (by decide) (by unfold Rng; omega) (fun c_47 => ?_) (fun c_47 => ?_)
    · refine zr_join (α := Int) (fun x => F0 m 79 ls (.int (iZ x) :: [])) (fun x => x = (if 0 ≤ d then d * d else 3 * d * d)) (fun J => ?_) (fun bd e_bd => ?_)
      · refine lv_iload_n hx hb dX1_lineCost_64 rfl (lv_at hl 0 rfl) ?_
        refine zr_if_lt (tgt := 74) hx hb dX1_lineCost_65 (by decide) (by unfold Rng; omega) (fun c_65 => ?_) (fun c_65 => ?_)
        · refine zr_const hx hb dX1_lineCost_74 ?_
          refine lv_iload_n hx hb dX1_lineCost_75 rfl (lv_at hl 0 rfl) ?_
          refine zr_mul hx hb dX1_lineCost_76 ?_
          refine lv_iload_n hx hb dX1_lineCost_77 rfl (lv_at hl 0 rfl) ?_
          refine zr_mul hx hb dX1_lineCost_78 ?_
          exact J _ (by rw [if_neg (by omega)])
        · refine lv_iload_n hx hb dX1_lineCost_68 rfl (lv_at hl 0 rfl) ?_
          refine lv_iload_n hx hb dX1_lineCost_69 rfl (lv_at hl 0 rfl) ?_
          refine zr_mul hx hb dX1_lineCost_70 ?_
          refine lv_goto (tgt := 79) hx hb dX1_lineCost_71 (by decide) ?_
          exact J _ (by rw [if_pos (by omega)])
      · refine lv_istore (lv' := [(4, .int (iZ (bd))), (3, .int (iZ (d))), (0, .ref (h 0)), (1, .int (iZ ((p : Int)))), (2, .int (iZ ((q : Int))))]) hx hb dX1_lineCost_79 hl (by decide) rfl (fun ls hl => ?_)
        refine zr_join (α := Int) (fun x => F0 m 105 ls (.int (iZ x) :: [])) (fun x => x = (if pb_pen S p = true ∧ pb_pen S q = true then S.e else 0)) (fun J => ?_) (fun bo e_bo => ?_)
        · refine lv_aload_n hx hb dX1_lineCost_81 rfl (lv_at hl 2 rfl) ?_
          refine lv_iload_n hx hb dX1_lineCost_82 rfl (lv_at hl 3 rfl) ?_
          refine zr_callV (rest := []) (As := [.int (iZ ((p : Int)))]) G.1 (mX_penalised l D dB dI h S T hok p (by omega)) (lw_V q112 q114 qs5 q21 q115) hd_X1_penalised ⟨⟨rfl, rfl⟩, Nat.le_of_ble_eq_true rfl, Nat.le_of_ble_eq_true rfl⟩ G.2 hP (wX_0 ..) rfl rfl hl.1 rfl (Nat.le_of_ble_eq_true rfl) dX1_lineCost_83 ⟨Nat.zero_le _, Nat.zero_le _⟩ ?_
          refine zr_if_eq (tgt := 104) hx hb dX1_lineCost_86 (by decide) (by unfold Rng; split <;> omega) (fun c_86 => ?_) (fun c_86 => ?_)
          · refine zr_const hx hb dX1_lineCost_104 ?_
            exact J _ (by rw [if_neg (by rintro ⟨z1, z2⟩; simp_all)])
          · refine lv_aload_n hx hb dX1_lineCost_89 rfl (lv_at hl 2 rfl) ?_
            refine lv_iload_n hx hb dX1_lineCost_90 rfl (lv_at hl 4 rfl) ?_
            refine zr_callV (rest := []) (As := [.int (iZ ((q : Int)))]) G.1 (mX_penalised l D dB dI h S T hok q (by omega)) (lw_V q112 q114 qs5 q21 q115) hd_X1_penalised ⟨⟨rfl, rfl⟩, Nat.le_of_ble_eq_true rfl, Nat.le_of_ble_eq_true rfl⟩ G.2 hP (wX_0 ..) rfl rfl hl.1 rfl (Nat.le_of_ble_eq_true rfl) dX1_lineCost_91 ⟨Nat.zero_le _, Nat.zero_le _⟩ ?_
            refine zr_if_eq (tgt := 104) hx hb dX1_lineCost_94 (by decide) (by unfold Rng; split <;> omega) (fun c_94 => ?_) (fun c_94 => ?_)
            · refine zr_const hx hb dX1_lineCost_104 ?_
              exact J _ (by rw [if_neg (by rintro ⟨z1, z2⟩; simp_all)])
            · refine lv_aload_n hx hb dX1_lineCost_97 rfl (lv_at hl 2 rfl) ?_
              refine gX_extra G hP dX1_lineCost_98 ?_
              refine lv_goto (tgt := 105) hx hb dX1_lineCost_101 (by decide) ?_
              exact J _ (by rw [if_pos ⟨by by_cases z : pb_pen S p = true <;> simp_all, by by_cases z : pb_pen S q = true <;> simp_all⟩])
        · refine lv_istore (lv' := [(5, .int (iZ (bo))), (4, .int (iZ (bd))), (3, .int (iZ (d))), (0, .ref (h 0)), (1, .int (iZ ((p : Int)))), (2, .int (iZ ((q : Int))))]) hx hb dX1_lineCost_105 hl (by decide) rfl (fun ls hl => ?_)
          refine lv_iload hx hb dX1_lineCost_107 (lv_at hl 1 rfl) ?_
          refine lv_aload_n hx hb dX1_lineCost_109 rfl (lv_at hl 3 rfl) ?_
          refine gX_pens G hP dX1_lineCost_110 ?_
          refine lv_iload_n hx hb dX1_lineCost_113 rfl (lv_at hl 5 rfl) ?_
          refine zr_const hx hb dX1_lineCost_114 ?_
          refine zr_sub hx hb dX1_lineCost_115 ?_
          refine aX_pens G hP (q - 1) (by omega) (by omega) dX1_lineCost_116 ?_
          refine zr_add hx hb dX1_lineCost_117 ?_
          refine lv_iload hx hb dX1_lineCost_118 (lv_at hl 0 rfl) ?_
          refine zr_add hx hb dX1_lineCost_120 ?_
          exact zr_ret hx hb hr hlocks (by unfold pb_lc; rw [if_neg hnf, if_neg (by omega), ← e_d, e_bd, e_bo]) dX1_lineCost_121
    · refine lv_iload_n hx hb dX1_lineCost_50 rfl (lv_at hl 0 rfl) ?_
      refine zr_if_lt (tgt := 58) hx hb dX1_lineCost_51 (by decide) (by unfold Rng; omega) (fun c_51 => ?_) (fun c_51 => ?_)
      · have hd3 := th_sq d
        refine zr_const hx hb dX1_lineCost_58 ?_
        refine lv_iload_n hx hb dX1_lineCost_59 rfl (lv_at hl 0 rfl) ?_
        refine zr_mul hx hb dX1_lineCost_60 ?_
        refine lv_iload_n hx hb dX1_lineCost_61 rfl (lv_at hl 0 rfl) ?_
        refine zr_mul hx hb dX1_lineCost_62 ?_
        exact zr_ret hx hb hr hlocks (by unfold pb_lc; rw [if_neg hnf, if_pos (by omega), ← e_d, if_neg (by omega)]) dX1_lineCost_63
      · refine zr_const hx hb dX1_lineCost_54 ?_
        refine lv_goto (tgt := 63) hx hb dX1_lineCost_55 (by decide) ?_
        exact zr_ret hx hb hr hlocks (by unfold pb_lc; rw [if_neg hnf, if_pos (by omega), ← e_d, if_pos (by omega)]) dX1_lineCost_63
set_option maxHeartbeats 4000000 in
set_option maxRecDepth 100000 in
/-- leastOnward(n, p), n lines to come -/
theorem mX_leastOnward (l : Launch) (D : va_G) (dB dI : ClassId) (h : Nat → Nat) (S : Par) (T : Pri) (hok : pb_Ok S) (hb0 : -1 ≤ T.b ∧ T.b ≤ 10) (n p : Nat) (hn : 1 ≤ n ∧ n ≤ 10) (hp : p ≤ 10) (hO : ∀ q, q ≤ 10 → -400 ≤ T.O ((n - 1) * 11 + q) ∧ T.O ((n - 1) * 11 + q) ≤ 1000000) : RO l yX1_leastOnward cX1_leastOnward 7 (some .int) ({ frames := 2, cells := 0, slots := 0, locals := 49 }) D (tyA dB dI) (wX dB dI h S T) [.ref (h 0), .int (iZ ((n : Int))), .int (iZ ((p : Int)))] (iZ (pb_lo (pb_lc S T.b p) (fun q => T.O ((n - 1) * 11 + q)) p (S.c - p))) := by
  refine RO.mk (by decide) (Nat.le_of_ble_eq_true rfl) ?_
  intro pr e s m below meth c ls G hr hlocks hP hl
  have G : CX pr m c cX1_leastOnward 7 s _ D dB dI := G
  have hx := G.1.1
  have hb := G.1.2.1
  have hl : lv_has ls 7 [(0, .ref (h 0)), (1, .int (iZ ((n : Int)))), (2, .int (iZ ((p : Int))))] := hl
  have hc10 := hok.2.2.1
  obtain ⟨R0, hR0⟩ : ∃ R0 : Nat → Int, R0 = fun q => T.O ((n - 1) * 11 + q) := ⟨_, rfl⟩
  rw [← hR0]
  refine zr_ldc (n := 1000000) hx hb G.1.2.2.2.1 (G.1.2.2.2.2 _ q99) dX1_leastOnward_0 (by decide) ?_
  refine zr_eq (y := pb_lo (pb_lc S T.b p) R0 p 0) (rfl) ?_
  refine lv_istore_n (lv' := [(3, .int (iZ (pb_lo (pb_lc S T.b p) R0 p 0))), (0, .ref (h 0)), (1, .int (iZ ((n : Int)))), (2, .int (iZ ((p : Int))))]) hx hb dX1_leastOnward_2 rfl hl (by decide) rfl (fun ls hl => ?_)
  refine lv_iload_n hx hb dX1_leastOnward_3 rfl (lv_at hl 3 rfl) ?_
  refine zr_const hx hb dX1_leastOnward_4 ?_
  refine zr_add hx hb dX1_leastOnward_5 ?_
  refine zr_eq (y := ((p + 0 + 1 : Nat) : Int)) (by omega) ?_
  refine lv_istore (lv' := [(4, .int (iZ (((p + 0 + 1 : Nat) : Int)))), (3, .int (iZ (pb_lo (pb_lc S T.b p) R0 p 0))), (0, .ref (h 0)), (1, .int (iZ ((n : Int)))), (2, .int (iZ ((p : Int))))]) hx hb dX1_leastOnward_6 hl (by decide) rfl (fun ls hl => ?_)
  refine zr_loop (pc := 8) (nL := 7) (S.c - p) (fun k => [(4, .int (iZ ((p + k + 1 : Nat) : Int))), (3, .int (iZ (pb_lo (pb_lc S T.b p) R0 p (k)))), (0, .ref (h 0)), (1, .int (iZ (n : Int))), (2, .int (iZ (p : Int)))]) (fun _ => True) ?_ 0 ls (Nat.zero_le _) trivial (lv_sub hl [0, 1, 2, 3, 4] rfl)
  intro k ls hk _ hl ih
  have hl : lv_has ls 7 [(4, .int (iZ ((p + k + 1 : Nat) : Int))), (3, .int (iZ (pb_lo (pb_lc S T.b p) R0 p (k)))), (0, .ref (h 0)), (1, .int (iZ (n : Int))), (2, .int (iZ (p : Int)))] := hl
  refine lv_iload hx hb dX1_leastOnward_8 (lv_at hl 0 rfl) ?_
  refine lv_aload_n hx hb dX1_leastOnward_10 rfl (lv_at hl 2 rfl) ?_
  refine gX_count G hP dX1_leastOnward_11 ?_
  refine zr_icmp_gt (tgt := 77) hx hb dX1_leastOnward_14 (by decide) (by unfold Rng; omega) (fun c_14 => ?_) (fun c_14 => ?_)
  · refine lv_iload_n hx hb dX1_leastOnward_77 rfl (lv_at hl 1 rfl) ?_
    exact zr_ret hx hb hr hlocks (by rw [show S.c - p = k by omega]) dX1_leastOnward_78
  · have hlc := th_lc_bd hok T.b (p := p) (q := p + k + 1) (by omega) (by omega)
    have hOq := hO (p + k + 1) (by omega)
    have hRq : R0 (p + k + 1) = T.O ((n - 1) * 11 + (p + k + 1)) := by rw [hR0]
    have hlo1 := th_lo_far (pb_lc S T.b p) R0 p k
    have hlo2 : -440 ≤ pb_lo (pb_lc S T.b p) R0 p k := th_lo_low (fun q a b => ⟨by rcases th_lc_bd hok T.b (p := p) (q := q) a (by omega) with z | z <;> omega, by rw [hR0]; exact (hO q (by omega)).1⟩)
    refine lv_aload_n hx hb dX1_leastOnward_17 rfl (lv_at hl 2 rfl) ?_
    refine lv_iload_n hx hb dX1_leastOnward_18 rfl (lv_at hl 4 rfl) ?_
    refine lv_iload hx hb dX1_leastOnward_19 (lv_at hl 0 rfl) ?_
    refine zr_callV (rest := []) (As := [.int (iZ ((p : Int))), .int (iZ (((p + k + 1 : Nat) : Int)))]) G.1 (mX_lineCost l D dB dI h S T hok hb0 p (p + k + 1) (by omega) (by omega)) (lw_V q104 q106 qs3 q21 q107) hd_X1_lineCost ⟨⟨rfl, rfl⟩, Nat.le_of_ble_eq_true rfl, Nat.le_of_ble_eq_true rfl⟩ G.2 hP (wX_0 ..) rfl rfl hl.1 rfl (Nat.le_of_ble_eq_true rfl) dX1_leastOnward_21 ⟨Nat.zero_le _, Nat.zero_le _⟩ ?_
    refine lv_istore (lv' := [(5, .int (iZ (pb_lc S T.b p (p + k + 1)))), (4, .int (iZ (((p + k + 1 : Nat) : Int)))), (3, .int (iZ (pb_lo (pb_lc S T.b p) R0 p k))), (0, .ref (h 0)), (1, .int (iZ ((n : Int)))), (2, .int (iZ ((p : Int))))]) hx hb dX1_leastOnward_24 hl (by decide) rfl (fun ls hl => ?_)
    refine lv_aload_n hx hb dX1_leastOnward_26 rfl (lv_at hl 3 rfl) ?_
    refine gX_onward G hP dX1_leastOnward_27 ?_
    refine lv_iload_n hx hb dX1_leastOnward_30 rfl (lv_at hl 4 rfl) ?_
    refine zr_const hx hb dX1_leastOnward_31 ?_
    refine zr_sub hx hb dX1_leastOnward_32 ?_
    refine zr_bipush hx hb dX1_leastOnward_33 (by decide) ?_
    refine zr_mul hx hb dX1_leastOnward_35 ?_
    refine lv_iload hx hb dX1_leastOnward_36 (lv_at hl 1 rfl) ?_
    refine zr_add hx hb dX1_leastOnward_38 ?_
    refine aX_onward G hP ((n - 1) * 11 + (p + k + 1)) (by omega) (by omega) dX1_leastOnward_39 ?_
    refine lv_istore (lv' := [(6, .int (iZ (T.O ((n - 1) * 11 + (p + k + 1))))), (5, .int (iZ (pb_lc S T.b p (p + k + 1)))), (4, .int (iZ (((p + k + 1 : Nat) : Int)))), (3, .int (iZ (pb_lo (pb_lc S T.b p) R0 p k))), (0, .ref (h 0)), (1, .int (iZ ((n : Int)))), (2, .int (iZ ((p : Int))))]) hx hb dX1_leastOnward_40 hl (by decide) rfl (fun ls hl => ?_)
    refine lv_iload hx hb dX1_leastOnward_42 (lv_at hl 1 rfl) ?_
    refine zr_ldc (n := 1000000) hx hb G.1.2.2.2.1 (G.1.2.2.2.2 _ q99) dX1_leastOnward_44 (by decide) ?_
    refine zr_icmp_ge (tgt := 71) hx hb dX1_leastOnward_46 (by decide) (by unfold Rng; omega) (fun c_46 => ?_) (fun c_46 => ?_)
    · refine zr_incN (lv' := [(4, .int (iZ (((p + k + 1 + 1 : Nat) : Int)))), (6, .int (iZ (T.O ((n - 1) * 11 + (p + k + 1))))), (5, .int (iZ (pb_lc S T.b p (p + k + 1)))), (3, .int (iZ (pb_lo (pb_lc S T.b p) R0 p k))), (0, .ref (h 0)), (1, .int (iZ ((n : Int)))), (2, .int (iZ ((p : Int))))]) hx hb dX1_leastOnward_71 hl 2 rfl (by decide) rfl (fun ls hl => ?_)
      refine lv_goto (tgt := 8) hx hb dX1_leastOnward_74 (by decide) ?_
      exact ih ls (by omega) trivial (by
        show lv_has ls 7 [(4, .int (iZ ((p + (k + 1) + 1 : Nat) : Int))), (3, .int (iZ (pb_lo (pb_lc S T.b p) R0 p (k + 1)))), (0, .ref (h 0)), (1, .int (iZ (n : Int))), (2, .int (iZ (p : Int)))]
        rw [show pb_lo (pb_lc S T.b p) R0 p (k + 1) = pb_lo (pb_lc S T.b p) R0 p k from by simp only [pb_lo]; rw [if_neg (by omega)]]
        exact lv_sub hl [0, 3, 4, 5, 6] rfl)
    · refine lv_iload hx hb dX1_leastOnward_49 (lv_at hl 0 rfl) ?_
      refine zr_ldc (n := 1000000) hx hb G.1.2.2.2.1 (G.1.2.2.2.2 _ q99) dX1_leastOnward_51 (by decide) ?_
      refine zr_icmp_ge (tgt := 71) hx hb dX1_leastOnward_53 (by decide) (by unfold Rng; omega) (fun c_53 => ?_) (fun c_53 => ?_)
      · refine zr_incN (lv' := [(4, .int (iZ (((p + k + 1 + 1 : Nat) : Int)))), (6, .int (iZ (T.O ((n - 1) * 11 + (p + k + 1))))), (5, .int (iZ (pb_lc S T.b p (p + k + 1)))), (3, .int (iZ (pb_lo (pb_lc S T.b p) R0 p k))), (0, .ref (h 0)), (1, .int (iZ ((n : Int)))), (2, .int (iZ ((p : Int))))]) hx hb dX1_leastOnward_71 hl 2 rfl (by decide) rfl (fun ls hl => ?_)
        refine lv_goto (tgt := 8) hx hb dX1_leastOnward_74 (by decide) ?_
        exact ih ls (by omega) trivial (by
          show lv_has ls 7 [(4, .int (iZ ((p + (k + 1) + 1 : Nat) : Int))), (3, .int (iZ (pb_lo (pb_lc S T.b p) R0 p (k + 1)))), (0, .ref (h 0)), (1, .int (iZ (n : Int))), (2, .int (iZ (p : Int)))]
          rw [show pb_lo (pb_lc S T.b p) R0 p (k + 1) = pb_lo (pb_lc S T.b p) R0 p k from by simp only [pb_lo]; rw [if_neg (by omega)]]
          exact lv_sub hl [0, 3, 4, 5, 6] rfl)
      · refine lv_iload hx hb dX1_leastOnward_56 (lv_at hl 1 rfl) ?_
        refine lv_iload hx hb dX1_leastOnward_58 (lv_at hl 0 rfl) ?_
        refine zr_add hx hb dX1_leastOnward_60 ?_
        refine lv_iload_n hx hb dX1_leastOnward_61 rfl (lv_at hl 3 rfl) ?_
        refine zr_icmp_ge (tgt := 71) hx hb dX1_leastOnward_62 (by decide) (by unfold Rng; omega) (fun c_62 => ?_) (fun c_62 => ?_)
        · refine zr_incN (lv' := [(4, .int (iZ (((p + k + 1 + 1 : Nat) : Int)))), (6, .int (iZ (T.O ((n - 1) * 11 + (p + k + 1))))), (5, .int (iZ (pb_lc S T.b p (p + k + 1)))), (3, .int (iZ (pb_lo (pb_lc S T.b p) R0 p k))), (0, .ref (h 0)), (1, .int (iZ ((n : Int)))), (2, .int (iZ ((p : Int))))]) hx hb dX1_leastOnward_71 hl 2 rfl (by decide) rfl (fun ls hl => ?_)
          refine lv_goto (tgt := 8) hx hb dX1_leastOnward_74 (by decide) ?_
          exact ih ls (by omega) trivial (by
            show lv_has ls 7 [(4, .int (iZ ((p + (k + 1) + 1 : Nat) : Int))), (3, .int (iZ (pb_lo (pb_lc S T.b p) R0 p (k + 1)))), (0, .ref (h 0)), (1, .int (iZ (n : Int))), (2, .int (iZ (p : Int)))]
            rw [show pb_lo (pb_lc S T.b p) R0 p (k + 1) = pb_lo (pb_lc S T.b p) R0 p k from by simp only [pb_lo]; rw [if_neg (by omega)]]
            exact lv_sub hl [0, 3, 4, 5, 6] rfl)
        · refine lv_iload hx hb dX1_leastOnward_65 (lv_at hl 1 rfl) ?_
          refine lv_iload hx hb dX1_leastOnward_67 (lv_at hl 0 rfl) ?_
          refine zr_add hx hb dX1_leastOnward_69 ?_
          refine lv_istore_n (lv' := [(3, .int (iZ ((pb_lc S T.b p (p + k + 1)) + (T.O ((n - 1) * 11 + (p + k + 1)))))), (6, .int (iZ (T.O ((n - 1) * 11 + (p + k + 1))))), (5, .int (iZ (pb_lc S T.b p (p + k + 1)))), (4, .int (iZ (((p + k + 1 : Nat) : Int)))), (0, .ref (h 0)), (1, .int (iZ ((n : Int)))), (2, .int (iZ ((p : Int))))]) hx hb dX1_leastOnward_70 rfl hl (by decide) rfl (fun ls hl => ?_)
          refine zr_incN (lv' := [(4, .int (iZ (((p + k + 1 + 1 : Nat) : Int)))), (3, .int (iZ ((pb_lc S T.b p (p + k + 1)) + (T.O ((n - 1) * 11 + (p + k + 1)))))), (6, .int (iZ (T.O ((n - 1) * 11 + (p + k + 1))))), (5, .int (iZ (pb_lc S T.b p (p + k + 1)))), (0, .ref (h 0)), (1, .int (iZ ((n : Int)))), (2, .int (iZ ((p : Int))))]) hx hb dX1_leastOnward_71 hl 3 rfl (by decide) rfl (fun ls hl => ?_)
          refine lv_goto (tgt := 8) hx hb dX1_leastOnward_74 (by decide) ?_
          exact ih ls (by omega) trivial (by
            show lv_has ls 7 [(4, .int (iZ ((p + (k + 1) + 1 : Nat) : Int))), (3, .int (iZ (pb_lo (pb_lc S T.b p) R0 p (k + 1)))), (0, .ref (h 0)), (1, .int (iZ (n : Int))), (2, .int (iZ (p : Int)))]
            rw [show pb_lo (pb_lc S T.b p) R0 p (k + 1) = (pb_lc S T.b p (p + k + 1)) + (T.O ((n - 1) * 11 + (p + k + 1))) from by simp only [pb_lo]; rw [if_pos ⟨by omega, by omega, by omega⟩, hRq]]
            exact lv_sub hl [0, 1, 4, 5, 6] rfl)
set_option maxHeartbeats 4000000 in
set_option maxRecDepth 100000 in
/-- fewestLines() -/
theorem mX_fewestLines (l : Launch) (D : va_G) (dB dI : ClassId) (h : Nat → Nat) (S : Par) (T : Pri) (hO : ∀ n, n ≤ 10 → -400 ≤ T.O (n * 11) ∧ T.O (n * 11) ≤ 1000000) (hB : -400 ≤ T.B 0 ∧ T.B 0 ≤ 1000000) : RO l yX1_fewestLines cX1_fewestLines 2 (some .int) ({ frames := 0, cells := 0, slots := 0, locals := 0 }) D (tyA dB dI) (wX dB dI h S T) [.ref (h 0)] (iZ (pb_fw (fun n => T.O (n * 11)) (T.B 0) 11 0)) := by
  refine RO.mk (by decide) (Nat.le_of_ble_eq_true rfl) ?_
  intro pr e s m below meth c ls G hr hlocks hP hl
  have G : CX pr m c cX1_fewestLines 2 s _ D dB dI := G
  have hx := G.1.1
  have hb := G.1.2.1
  have hl : lv_has ls 2 [(0, .ref (h 0))] := hl
  refine zr_const hx hb dX1_fewestLines_0 ?_
  refine zr_eq (y := ((0 : Nat) : Int)) (rfl) ?_
  refine lv_istore_n (lv' := [(1, .int (iZ (((0 : Nat) : Int)))), (0, .ref (h 0))]) hx hb dX1_fewestLines_1 rfl hl (by decide) rfl (fun ls hl => ?_)
  refine zr_loop (pc := 2) (nL := 2) 11 (fun k => [(1, .int (iZ ((k : Nat) : Int))), (0, .ref (h 0))]) (fun k => pb_fw (fun n => T.O (n * 11)) (T.B 0) (11) (0) = pb_fw (fun n => T.O (n * 11)) (T.B 0) (11 - k) (k)) ?_ 0 ls (Nat.zero_le _) rfl (lv_sub hl [0, 1] rfl)
  intro k ls hk hC hl ih
  have hl : lv_has ls 2 [(1, .int (iZ ((k : Nat) : Int))), (0, .ref (h 0))] := hl
  refine lv_iload_n hx hb dX1_fewestLines_2 rfl (lv_at hl 0 rfl) ?_
  refine zr_bipush hx hb dX1_fewestLines_3 (by decide) ?_
  refine zr_icmp_gt (tgt := 48) hx hb dX1_fewestLines_5 (by decide) (by unfold Rng; omega) (fun c_5 => ?_) (fun c_5 => ?_)
  · have hk11 : k = 11 := by omega
    subst hk11
    refine zr_const hx hb dX1_fewestLines_48 ?_
    exact zr_ret hx hb hr hlocks (by rw [hC]; rfl) dX1_fewestLines_49
  · have hOk := hO k (by omega)
    refine lv_aload_n hx hb dX1_fewestLines_8 rfl (lv_at hl 1 rfl) ?_
    refine gX_onward G hP dX1_fewestLines_9 ?_
    refine lv_iload_n hx hb dX1_fewestLines_12 rfl (lv_at hl 0 rfl) ?_
    refine zr_bipush hx hb dX1_fewestLines_13 (by decide) ?_
    refine zr_mul hx hb dX1_fewestLines_15 ?_
    refine aX_onward G hP (k * 11) (by omega) (by omega) dX1_fewestLines_16 ?_
    refine zr_ldc (n := 1000000) hx hb G.1.2.2.2.1 (G.1.2.2.2.2 _ q99) dX1_fewestLines_17 (by decide) ?_
    refine zr_icmp_ge (tgt := 42) hx hb dX1_fewestLines_19 (by decide) (by unfold Rng; omega) (fun c_19 => ?_) (fun c_19 => ?_)
    · refine zr_incN (lv' := [(1, .int (iZ (((k + 1 : Nat) : Int)))), (0, .ref (h 0))]) hx hb dX1_fewestLines_42 hl 0 rfl (by decide) rfl (fun ls hl => ?_)
      refine lv_goto (tgt := 2) hx hb dX1_fewestLines_45 (by decide) ?_
      exact ih ls (by omega) (by rw [hC, show 11 - k = (11 - (k + 1)) + 1 by omega]; simp only [pb_fw]; rw [if_neg (by omega)]) (lv_sub hl [0, 1] rfl)
    · refine lv_aload_n hx hb dX1_fewestLines_22 rfl (lv_at hl 1 rfl) ?_
      refine gX_onward G hP dX1_fewestLines_23 ?_
      refine lv_iload_n hx hb dX1_fewestLines_26 rfl (lv_at hl 0 rfl) ?_
      refine zr_bipush hx hb dX1_fewestLines_27 (by decide) ?_
      refine zr_mul hx hb dX1_fewestLines_29 ?_
      refine aX_onward G hP (k * 11) (by omega) (by omega) dX1_fewestLines_30 ?_
      refine lv_aload_n hx hb dX1_fewestLines_31 rfl (lv_at hl 1 rfl) ?_
      refine gX_best G hP dX1_fewestLines_32 ?_
      refine zr_const hx hb dX1_fewestLines_35 ?_
      refine aX_best G hP (0) (by omega) (by omega) dX1_fewestLines_36 ?_
      refine zr_icmp_ne (tgt := 42) hx hb dX1_fewestLines_37 (by decide) (by unfold Rng; omega) (fun c_37 => ?_) (fun c_37 => ?_)
      · refine zr_incN (lv' := [(1, .int (iZ (((k + 1 : Nat) : Int)))), (0, .ref (h 0))]) hx hb dX1_fewestLines_42 hl 0 rfl (by decide) rfl (fun ls hl => ?_)
        refine lv_goto (tgt := 2) hx hb dX1_fewestLines_45 (by decide) ?_
        exact ih ls (by omega) (by rw [hC, show 11 - k = (11 - (k + 1)) + 1 by omega]; simp only [pb_fw]; rw [if_neg (by omega)]) (lv_sub hl [0, 1] rfl)
      · refine lv_iload_n hx hb dX1_fewestLines_40 rfl (lv_at hl 0 rfl) ?_
        exact zr_ret hx hb hr hlocks (by rw [hC, show 11 - k = (11 - (k + 1)) + 1 by omega]; simp only [pb_fw]; rw [if_pos (by omega)]) dX1_fewestLines_41
set_option maxHeartbeats 4000000 in
set_option maxRecDepth 100000 in
/-- firstEnd(n, p) -/
theorem mX_firstEnd (l : Launch) (D : va_G) (dB dI : ClassId) (h : Nat → Nat) (S : Par) (T : Pri) (hok : pb_Ok S) (hb0 : -1 ≤ T.b ∧ T.b ≤ 10) (n p : Nat) (hn : 1 ≤ n ∧ n ≤ 10) (hp : p ≤ 10) (hO : ∀ q, q ≤ 10 → -400 ≤ T.O ((n - 1) * 11 + q) ∧ T.O ((n - 1) * 11 + q) ≤ 1000000) (hV : -400 ≤ T.O (n * 11 + p) ∧ T.O (n * 11 + p) ≤ 1000000) : RO l yX1_firstEnd cX1_firstEnd 7 (some .int) ({ frames := 2, cells := 0, slots := 0, locals := 49 }) D (tyA dB dI) (wX dB dI h S T) [.ref (h 0), .int (iZ ((n : Int))), .int (iZ ((p : Int)))] (iZ (((pb_fe (pb_lc S T.b p) (fun q => T.O ((n - 1) * 11 + q)) (T.O (n * 11 + p)) S.c (S.c - p) (p + 1) : Nat) : Int))) := by
  refine RO.mk (by decide) (Nat.le_of_ble_eq_true rfl) ?_
  intro pr e s m below meth c ls G hr hlocks hP hl
  have G : CX pr m c cX1_firstEnd 7 s _ D dB dI := G
  have hx := G.1.1
  have hb := G.1.2.1
  have hl : lv_has ls 7 [(0, .ref (h 0)), (1, .int (iZ ((n : Int)))), (2, .int (iZ ((p : Int))))] := hl
  have hc10 := hok.2.2.1
  obtain ⟨R0, hR0⟩ : ∃ R0 : Nat → Int, R0 = fun q => T.O ((n - 1) * 11 + q) := ⟨_, rfl⟩
  rw [← hR0]
  refine lv_aload_n hx hb dX1_firstEnd_0 rfl (lv_at hl 0 rfl) ?_
  refine gX_onward G hP dX1_firstEnd_1 ?_
  refine lv_iload_n hx hb dX1_firstEnd_4 rfl (lv_at hl 1 rfl) ?_
  refine zr_bipush hx hb dX1_firstEnd_5 (by decide) ?_
  refine zr_mul hx hb dX1_firstEnd_7 ?_
  refine lv_iload_n hx hb dX1_firstEnd_8 rfl (lv_at hl 2 rfl) ?_
  refine zr_add hx hb dX1_firstEnd_9 ?_
  refine aX_onward G hP (n * 11 + p) (by omega) (by omega) dX1_firstEnd_10 ?_
  refine lv_istore_n (lv' := [(3, .int (iZ (T.O (n * 11 + p)))), (0, .ref (h 0)), (1, .int (iZ ((n : Int)))), (2, .int (iZ ((p : Int))))]) hx hb dX1_firstEnd_11 rfl hl (by decide) rfl (fun ls hl => ?_)
  refine lv_iload_n hx hb dX1_firstEnd_12 rfl (lv_at hl 3 rfl) ?_
  refine zr_const hx hb dX1_firstEnd_13 ?_
  refine zr_add hx hb dX1_firstEnd_14 ?_
  refine zr_eq (y := ((p + 0 + 1 : Nat) : Int)) (by omega) ?_
  refine lv_istore (lv' := [(4, .int (iZ (((p + 0 + 1 : Nat) : Int)))), (3, .int (iZ (T.O (n * 11 + p)))), (0, .ref (h 0)), (1, .int (iZ ((n : Int)))), (2, .int (iZ ((p : Int))))]) hx hb dX1_firstEnd_15 hl (by decide) rfl (fun ls hl => ?_)
  refine zr_loop (pc := 17) (nL := 7) (S.c - p) (fun k => [(4, .int (iZ ((p + k + 1 : Nat) : Int))), (3, .int (iZ (T.O (n * 11 + p)))), (0, .ref (h 0)), (1, .int (iZ (n : Int))), (2, .int (iZ (p : Int)))]) (fun k => pb_fe (pb_lc S T.b p) R0 (T.O (n * 11 + p)) S.c (S.c - p) (p + 1) = pb_fe (pb_lc S T.b p) R0 (T.O (n * 11 + p)) S.c (S.c - p - k) (p + k + 1)) ?_ 0 ls (Nat.zero_le _) rfl (lv_sub hl [0, 1, 2, 3, 4] rfl)
  intro k ls hk hC hl ih
  have hl : lv_has ls 7 [(4, .int (iZ ((p + k + 1 : Nat) : Int))), (3, .int (iZ (T.O (n * 11 + p)))), (0, .ref (h 0)), (1, .int (iZ (n : Int))), (2, .int (iZ (p : Int)))] := hl
  refine lv_iload hx hb dX1_firstEnd_17 (lv_at hl 0 rfl) ?_
  refine lv_aload_n hx hb dX1_firstEnd_19 rfl (lv_at hl 2 rfl) ?_
  refine gX_count G hP dX1_firstEnd_20 ?_
  refine zr_icmp_gt (tgt := 83) hx hb dX1_firstEnd_23 (by decide) (by unfold Rng; omega) (fun c_23 => ?_) (fun c_23 => ?_)
  · refine lv_aload_n hx hb dX1_firstEnd_83 rfl (lv_at hl 2 rfl) ?_
    refine gX_count G hP dX1_firstEnd_84 ?_
    exact zr_ret hx hb hr hlocks (by rw [hC, show S.c - p - k = 0 by omega]; rfl) dX1_firstEnd_87
  · have hlc := th_lc_bd hok T.b (p := p) (q := p + k + 1) (by omega) (by omega)
    have hOq := hO (p + k + 1) (by omega)
    have hRq : R0 (p + k + 1) = T.O ((n - 1) * 11 + (p + k + 1)) := by rw [hR0]
    refine lv_aload_n hx hb dX1_firstEnd_26 rfl (lv_at hl 2 rfl) ?_
    refine lv_iload_n hx hb dX1_firstEnd_27 rfl (lv_at hl 4 rfl) ?_
    refine lv_iload hx hb dX1_firstEnd_28 (lv_at hl 0 rfl) ?_
    refine zr_callV (rest := []) (As := [.int (iZ ((p : Int))), .int (iZ (((p + k + 1 : Nat) : Int)))]) G.1 (mX_lineCost l D dB dI h S T hok hb0 p (p + k + 1) (by omega) (by omega)) (lw_V q104 q106 qs3 q21 q107) hd_X1_lineCost ⟨⟨rfl, rfl⟩, Nat.le_of_ble_eq_true rfl, Nat.le_of_ble_eq_true rfl⟩ G.2 hP (wX_0 ..) rfl rfl hl.1 rfl (Nat.le_of_ble_eq_true rfl) dX1_firstEnd_30 ⟨Nat.zero_le _, Nat.zero_le _⟩ ?_
    refine lv_istore (lv' := [(5, .int (iZ (pb_lc S T.b p (p + k + 1)))), (4, .int (iZ (((p + k + 1 : Nat) : Int)))), (3, .int (iZ (T.O (n * 11 + p)))), (0, .ref (h 0)), (1, .int (iZ ((n : Int)))), (2, .int (iZ ((p : Int))))]) hx hb dX1_firstEnd_33 hl (by decide) rfl (fun ls hl => ?_)
    refine lv_aload_n hx hb dX1_firstEnd_35 rfl (lv_at hl 3 rfl) ?_
    refine gX_onward G hP dX1_firstEnd_36 ?_
    refine lv_iload_n hx hb dX1_firstEnd_39 rfl (lv_at hl 4 rfl) ?_
    refine zr_const hx hb dX1_firstEnd_40 ?_
    refine zr_sub hx hb dX1_firstEnd_41 ?_
    refine zr_bipush hx hb dX1_firstEnd_42 (by decide) ?_
    refine zr_mul hx hb dX1_firstEnd_44 ?_
    refine lv_iload hx hb dX1_firstEnd_45 (lv_at hl 1 rfl) ?_
    refine zr_add hx hb dX1_firstEnd_47 ?_
    refine aX_onward G hP ((n - 1) * 11 + (p + k + 1)) (by omega) (by omega) dX1_firstEnd_48 ?_
    refine lv_istore (lv' := [(6, .int (iZ (T.O ((n - 1) * 11 + (p + k + 1))))), (5, .int (iZ (pb_lc S T.b p (p + k + 1)))), (4, .int (iZ (((p + k + 1 : Nat) : Int)))), (3, .int (iZ (T.O (n * 11 + p)))), (0, .ref (h 0)), (1, .int (iZ ((n : Int)))), (2, .int (iZ ((p : Int))))]) hx hb dX1_firstEnd_49 hl (by decide) rfl (fun ls hl => ?_)
    refine lv_iload hx hb dX1_firstEnd_51 (lv_at hl 1 rfl) ?_
    refine zr_ldc (n := 1000000) hx hb G.1.2.2.2.1 (G.1.2.2.2.2 _ q99) dX1_firstEnd_53 (by decide) ?_
    refine zr_icmp_ge (tgt := 77) hx hb dX1_firstEnd_55 (by decide) (by unfold Rng; omega) (fun c_55 => ?_) (fun c_55 => ?_)
    · refine zr_incN (lv' := [(4, .int (iZ (((p + k + 1 + 1 : Nat) : Int)))), (6, .int (iZ (T.O ((n - 1) * 11 + (p + k + 1))))), (5, .int (iZ (pb_lc S T.b p (p + k + 1)))), (3, .int (iZ (T.O (n * 11 + p)))), (0, .ref (h 0)), (1, .int (iZ ((n : Int)))), (2, .int (iZ ((p : Int))))]) hx hb dX1_firstEnd_77 hl 2 rfl (by decide) rfl (fun ls hl => ?_)
      refine lv_goto (tgt := 17) hx hb dX1_firstEnd_80 (by decide) ?_
      exact ih ls (by omega) (by rw [hC, show S.c - p - k = (S.c - p - (k + 1)) + 1 by omega]; simp only [pb_fe]; rw [if_neg (by omega)]; rfl) (lv_sub hl [0, 3, 4, 5, 6] rfl)
    · refine lv_iload hx hb dX1_firstEnd_58 (lv_at hl 0 rfl) ?_
      refine zr_ldc (n := 1000000) hx hb G.1.2.2.2.1 (G.1.2.2.2.2 _ q99) dX1_firstEnd_60 (by decide) ?_
      refine zr_icmp_ge (tgt := 77) hx hb dX1_firstEnd_62 (by decide) (by unfold Rng; omega) (fun c_62 => ?_) (fun c_62 => ?_)
      · refine zr_incN (lv' := [(4, .int (iZ (((p + k + 1 + 1 : Nat) : Int)))), (6, .int (iZ (T.O ((n - 1) * 11 + (p + k + 1))))), (5, .int (iZ (pb_lc S T.b p (p + k + 1)))), (3, .int (iZ (T.O (n * 11 + p)))), (0, .ref (h 0)), (1, .int (iZ ((n : Int)))), (2, .int (iZ ((p : Int))))]) hx hb dX1_firstEnd_77 hl 2 rfl (by decide) rfl (fun ls hl => ?_)
        refine lv_goto (tgt := 17) hx hb dX1_firstEnd_80 (by decide) ?_
        exact ih ls (by omega) (by rw [hC, show S.c - p - k = (S.c - p - (k + 1)) + 1 by omega]; simp only [pb_fe]; rw [if_neg (by omega)]; rfl) (lv_sub hl [0, 3, 4, 5, 6] rfl)
      · refine lv_iload hx hb dX1_firstEnd_65 (lv_at hl 1 rfl) ?_
        refine lv_iload hx hb dX1_firstEnd_67 (lv_at hl 0 rfl) ?_
        refine zr_add hx hb dX1_firstEnd_69 ?_
        refine lv_iload_n hx hb dX1_firstEnd_70 rfl (lv_at hl 3 rfl) ?_
        refine zr_icmp_ne (tgt := 77) hx hb dX1_firstEnd_71 (by decide) (by unfold Rng; omega) (fun c_71 => ?_) (fun c_71 => ?_)
        · refine zr_incN (lv' := [(4, .int (iZ (((p + k + 1 + 1 : Nat) : Int)))), (6, .int (iZ (T.O ((n - 1) * 11 + (p + k + 1))))), (5, .int (iZ (pb_lc S T.b p (p + k + 1)))), (3, .int (iZ (T.O (n * 11 + p)))), (0, .ref (h 0)), (1, .int (iZ ((n : Int)))), (2, .int (iZ ((p : Int))))]) hx hb dX1_firstEnd_77 hl 2 rfl (by decide) rfl (fun ls hl => ?_)
          refine lv_goto (tgt := 17) hx hb dX1_firstEnd_80 (by decide) ?_
          exact ih ls (by omega) (by rw [hC, show S.c - p - k = (S.c - p - (k + 1)) + 1 by omega]; simp only [pb_fe]; rw [if_neg (by omega)]; rfl) (lv_sub hl [0, 3, 4, 5, 6] rfl)
        · refine lv_iload hx hb dX1_firstEnd_74 (lv_at hl 2 rfl) ?_
          exact zr_ret hx hb hr hlocks (by rw [hC, show S.c - p - k = (S.c - p - (k + 1)) + 1 by omega]; simp only [pb_fe]; rw [if_pos ⟨by omega, by omega, by omega⟩]) dX1_firstEnd_76
end
section
/-! THE COMPONENT's writing methods, 1: findBest, learn, start -/
theorem updZ_s (f : Nat → Int) (k : Nat) (x : Int) : updZ f k x k = x := by simp [updZ]
theorem updZ_n (f : Nat → Int) {k j : Nat} (x : Int) (h : j ≠ k) : updZ f k x j = f j := by simp [updZ, h]
theorem th_lo_congr {L R R' : Nat → Int} {p : Nat} (k : Nat) (h : ∀ q, p < q → q ≤ p + k → R q = R' q) : pb_lo L R p k = pb_lo L R' p k := by
  induction k with
  | zero => rfl
  | succ k ih =>
    simp only [pb_lo]
    rw [ih (fun q a b => h q a (by omega)), h (p + k + 1) (by omega) (by omega)]
/-- the tables are filled for the barred word b -/
def LT (S : Par) (T : Pri) (b : Int) : Prop := T.b = b ∧ (∀ n p, n ≤ 10 → p ≤ 10 → T.O (n * 11 + p) = pb_on (pb_lc S b) S.c n p) ∧ ∀ p, p ≤ 10 → T.B p = pb_be (pb_lc S b) S.c p ∧ T.Y p = pb_wy (pb_lc S b) S.c p
/-- best and ways of p are found, all else stays -/
def FB (S : Par) (T : Pri) (p : Nat) (T' : Pri) (k : Nat) : Prop := T'.b = T.b ∧ T'.O = T.O ∧ T'.U = T.U ∧ (∀ j, j ≠ p → T'.B j = T.B j ∧ T'.Y j = T.Y j) ∧ T'.B p = (pb_fb (pb_lc S T.b p) T.B T.Y p (T.B p) (T.Y p) k).1 ∧ T'.Y p = (pb_fb (pb_lc S T.b p) T.B T.Y p (T.B p) (T.Y p) k).2
set_option maxHeartbeats 4000000 in
set_option maxRecDepth 100000 in
/-- findBest(p) -/
theorem mX_findBest (l : Launch) (D : va_G) (dB dI : ClassId) (h : Nat → Nat) (S : Par) (T : Pri) (hok : pb_Ok S) (hb0 : -1 ≤ T.b ∧ T.b ≤ 10) (p : Nat) (hp : p < S.c) (hB : ∀ q, q ≤ 10 → -400 ≤ T.B q ∧ T.B q ≤ 1000000) : WRv l yX1_findBest cX1_findBest 5 ({ frames := 2, cells := 0, slots := 0, locals := 49 }) D (tyA dB dI) (wXu dB dI h) (S, T) [.ref (h 0), .int (iZ ((p : Int)))] (fun u => S = u.1 ∧ FB S T p u.2 (S.c - p)) := by
  refine WRv.mk (by decide) (Nat.le_of_ble_eq_true rfl) (wXu_adr dB dI h _) ?_
  intro pr e s m below meth c ls A G hr hlocks hA hD hS hP hl
  have G : CX pr m c cX1_findBest 5 s _ D dB dI := G
  have hDD : ∀ S T, va_D A (wX dB dI h S T) := fun S T => hD (S, T)
  have hP : va_P D vwCl (wX dB dI h S T) s.heap := hP
  have hx := G.1.1
  have hb := G.1.2.1
  have hl : lv_has ls 5 [(0, .ref (h 0)), (1, .int (iZ ((p : Int))))] := hl
  have hc10 := hok.2.2.1
  have hfbl : ∀ k, p + k ≤ S.c → -440 ≤ (pb_fb (pb_lc S T.b p) T.B T.Y p (T.B p) (T.Y p) k).1 ∧ (pb_fb (pb_lc S T.b p) T.B T.Y p (T.B p) (T.Y p) k).1 ≤ 1000000 := by
    intro k
    induction k with
    | zero => intro _; have := hB p (by omega); simp only [pb_fb]; omega
    | succ k ih =>
      intro hk
      have i := ih (by omega)
      have := hB (p + k + 1) (by omega)
      have hlc : -40 ≤ pb_lc S T.b p (p + k + 1) := by rcases th_lc_bd hok T.b (p := p) (q := p + k + 1) (by omega) (by omega) with z | z <;> omega
      simp only [pb_fb]
      split
      · split
        · dsimp only; omega
        · exact i
      · exact i
  refine lv_iload_n hx hb dX1_findBest_0 rfl (lv_at hl 1 rfl) ?_
  refine zr_const hx hb dX1_findBest_1 ?_
  refine zr_add hx hb dX1_findBest_2 ?_
  refine zr_eq (y := ((p + 0 + 1 : Nat) : Int)) (by omega) ?_
  refine lv_istore_n (lv' := [(2, .int (iZ (((p + 0 + 1 : Nat) : Int)))), (0, .ref (h 0)), (1, .int (iZ ((p : Int))))]) hx hb dX1_findBest_3 rfl hl (by decide) rfl (fun ls hl => ?_)
  refine zr_loopH (pc := 4) (nL := 5) (α := Pri) (S.c - p) (fun k _ => [(2, .int (iZ ((p + k + 1 : Nat) : Int))), (0, .ref (h 0)), (1, .int (iZ (p : Int)))]) (fun k T1 H locs => va_P D vwCl (wX dB dI h S T1) H ∧ va_S A s.heap H locs ∧ FB S T p T1 k) ?_ 0 T s.heap [] ls (Nat.zero_le _) ⟨hP, hS, rfl, rfl, rfl, fun j _ => ⟨rfl, rfl⟩, rfl, rfl⟩ (lv_sub hl [0, 1, 2] rfl)
  clear hP hS
  intro k T1 H locs ls hk hC hl ih
  obtain ⟨hP, hS, hF⟩ := hC
  have hl : lv_has ls 5 [(2, .int (iZ ((p + k + 1 : Nat) : Int))), (0, .ref (h 0)), (1, .int (iZ (p : Int)))] := hl
  refine lv_iload_n hx hb dX1_findBest_4 rfl (lv_at hl 0 rfl) ?_
  refine lv_aload_n hx hb dX1_findBest_5 rfl (lv_at hl 1 rfl) ?_
  refine gX_count G hP dX1_findBest_6 ?_
  refine zr_icmp_gt (tgt := 108) hx hb dX1_findBest_9 (by decide) (by unfold Rng; omega) (fun c_9 => ?_) (fun c_9 => ?_)
  · exact wr_vret hx hb hr hlocks hS (S, T1) hP ⟨rfl, by rw [show S.c - p = k by omega]; exact hF⟩ dX1_findBest_108
  · obtain ⟨fb, fO, fU, fj, fBp, fYp⟩ := hF
    have hlc := th_lc_bd hok T.b (p := p) (q := p + k + 1) (by omega) (by omega)
    have hBq := hB (p + k + 1) (by omega)
    have fBq := (fj (p + k + 1) (by omega)).1
    have fYq := (fj (p + k + 1) (by omega)).2
    have hbk := hfbl k (by omega)
    generalize e_bk : (pb_fb (pb_lc S T.b p) T.B T.Y p (T.B p) (T.Y p) k).1 = bk at *
    generalize e_yk : (pb_fb (pb_lc S T.b p) T.B T.Y p (T.B p) (T.Y p) k).2 = yk at *
    refine lv_aload_n hx hb dX1_findBest_12 rfl (lv_at hl 1 rfl) ?_
    refine lv_iload_n hx hb dX1_findBest_13 rfl (lv_at hl 2 rfl) ?_
    refine lv_iload_n hx hb dX1_findBest_14 rfl (lv_at hl 0 rfl) ?_
    refine zr_callV (rest := []) (As := [.int (iZ ((p : Int))), .int (iZ (((p + k + 1 : Nat) : Int)))]) G.1 (mX_lineCost l D dB dI h S T1 hok (by rw [fb]; exact hb0) p (p + k + 1) (by omega) (by omega)) (lw_V q104 q106 qs3 q21 q107) hd_X1_lineCost ⟨⟨rfl, rfl⟩, Nat.le_of_ble_eq_true rfl, Nat.le_of_ble_eq_true rfl⟩ G.2 hP (wX_0 ..) rfl rfl hl.1 rfl (Nat.le_of_ble_eq_true rfl) dX1_findBest_15 ⟨Nat.zero_le _, Nat.zero_le _⟩ ?_
    refine zr_eq (y := pb_lc S T.b p (p + k + 1)) (by rw [fb]) ?_
    refine lv_istore_n (lv' := [(3, .int (iZ (pb_lc S T.b p (p + k + 1)))), (2, .int (iZ (((p + k + 1 : Nat) : Int)))), (0, .ref (h 0)), (1, .int (iZ ((p : Int))))]) hx hb dX1_findBest_18 rfl hl (by decide) rfl (fun ls hl => ?_)
    refine lv_iload_n hx hb dX1_findBest_19 rfl (lv_at hl 0 rfl) ?_
    refine zr_ldc (n := 1000000) hx hb G.1.2.2.2.1 (G.1.2.2.2.2 _ q99) dX1_findBest_20 (by decide) ?_
    refine zr_icmp_ge (tgt := 102) hx hb dX1_findBest_22 (by decide) (by unfold Rng; omega) (fun c_22 => ?_) (fun c_22 => ?_)
    · refine zr_incN (lv' := [(2, .int (iZ (((p + k + 1 + 1 : Nat) : Int)))), (3, .int (iZ (pb_lc S T.b p (p + k + 1)))), (0, .ref (h 0)), (1, .int (iZ ((p : Int))))]) hx hb dX1_findBest_102 hl 1 rfl (by decide) rfl (fun ls hl => ?_)
      refine lv_goto (tgt := 4) hx hb dX1_findBest_105 (by decide) ?_
      exact ih T1 H locs ls (by omega) ⟨hP, hS, by
        unfold FB
        rw [show pb_fb (pb_lc S T.b p) T.B T.Y p (T.B p) (T.Y p) (k + 1) = (pb_fb (pb_lc S T.b p) T.B T.Y p (T.B p) (T.Y p) k) from by rw [pb_fb]; exact if_neg (by omega)]
        rw [e_bk, e_yk]
        exact ⟨fb, fO, fU, fj, fBp, fYp⟩⟩ (lv_sub hl [0, 2, 3] rfl)
    · refine lv_aload_n hx hb dX1_findBest_25 rfl (lv_at hl 2 rfl) ?_
      refine gX_best G hP dX1_findBest_26 ?_
      refine lv_iload_n hx hb dX1_findBest_29 rfl (lv_at hl 1 rfl) ?_
      refine aX_best G hP (p + k + 1) (by omega) (by omega) dX1_findBest_30 ?_
      refine zr_eq (y := T.B (p + k + 1)) (fBq) ?_
      refine zr_ldc (n := 1000000) hx hb G.1.2.2.2.1 (G.1.2.2.2.2 _ q99) dX1_findBest_31 (by decide) ?_
      refine zr_icmp_ge (tgt := 102) hx hb dX1_findBest_33 (by decide) (by unfold Rng; omega) (fun c_33 => ?_) (fun c_33 => ?_)
      · refine zr_incN (lv' := [(2, .int (iZ (((p + k + 1 + 1 : Nat) : Int)))), (3, .int (iZ (pb_lc S T.b p (p + k + 1)))), (0, .ref (h 0)), (1, .int (iZ ((p : Int))))]) hx hb dX1_findBest_102 hl 1 rfl (by decide) rfl (fun ls hl => ?_)
        refine lv_goto (tgt := 4) hx hb dX1_findBest_105 (by decide) ?_
        exact ih T1 H locs ls (by omega) ⟨hP, hS, by
          unfold FB
          rw [show pb_fb (pb_lc S T.b p) T.B T.Y p (T.B p) (T.Y p) (k + 1) = (pb_fb (pb_lc S T.b p) T.B T.Y p (T.B p) (T.Y p) k) from by rw [pb_fb]; exact if_neg (by omega)]
          rw [e_bk, e_yk]
          exact ⟨fb, fO, fU, fj, fBp, fYp⟩⟩ (lv_sub hl [0, 2, 3] rfl)
      · refine lv_iload_n hx hb dX1_findBest_36 rfl (lv_at hl 0 rfl) ?_
        refine lv_aload_n hx hb dX1_findBest_37 rfl (lv_at hl 2 rfl) ?_
        refine gX_best G hP dX1_findBest_38 ?_
        refine lv_iload_n hx hb dX1_findBest_41 rfl (lv_at hl 1 rfl) ?_
        refine aX_best G hP (p + k + 1) (by omega) (by omega) dX1_findBest_42 ?_
        refine zr_eq (y := T.B (p + k + 1)) (fBq) ?_
        refine zr_add hx hb dX1_findBest_43 ?_
        refine lv_istore (lv' := [(4, .int (iZ ((pb_lc S T.b p (p + k + 1)) + (T.B (p + k + 1))))), (3, .int (iZ (pb_lc S T.b p (p + k + 1)))), (2, .int (iZ (((p + k + 1 : Nat) : Int)))), (0, .ref (h 0)), (1, .int (iZ ((p : Int))))]) hx hb dX1_findBest_44 hl (by decide) rfl (fun ls hl => ?_)
        refine lv_iload hx hb dX1_findBest_46 (lv_at hl 0 rfl) ?_
        refine lv_aload_n hx hb dX1_findBest_48 rfl (lv_at hl 3 rfl) ?_
        refine gX_best G hP dX1_findBest_49 ?_
        refine lv_iload_n hx hb dX1_findBest_52 rfl (lv_at hl 4 rfl) ?_
        refine aX_best G hP (p) (by omega) (by omega) dX1_findBest_53 ?_
        refine zr_eq (y := bk) (fBp) ?_
        refine zr_icmp_ge (tgt := 72) hx hb dX1_findBest_54 (by decide) (by unfold Rng; omega) (fun c_54 => ?_) (fun c_54 => ?_)
        · have h_54 := c_54
          refine lv_aload_n hx hb dX1_findBest_72 rfl (lv_at hl 3 rfl) ?_
          refine gX_ways G hP dX1_findBest_73 ?_
          refine lv_iload_n hx hb dX1_findBest_76 rfl (lv_at hl 4 rfl) ?_
          refine lv_dup2_11 hx hb dX1_findBest_77 rfl rfl ?_
          refine aX_ways G hP (p) (by omega) (by omega) dX1_findBest_78 ?_
          refine zr_eq (y := yk) (fYp) ?_
          refine lv_iload hx hb dX1_findBest_79 (lv_at hl 0 rfl) ?_
          refine lv_aload_n hx hb dX1_findBest_81 rfl (lv_at hl 3 rfl) ?_
          refine gX_best G hP dX1_findBest_82 ?_
          refine lv_iload_n hx hb dX1_findBest_85 rfl (lv_at hl 4 rfl) ?_
          refine aX_best G hP (p) (by omega) (by omega) dX1_findBest_86 ?_
          refine zr_eq (y := bk) (fBp) ?_
          refine zr_icmp_ne (tgt := 99) hx hb dX1_findBest_87 (by decide) (by unfold Rng; omega) (fun c_87 => ?_) (fun c_87 => ?_)
          · have h_87 := c_87
            refine zr_const hx hb dX1_findBest_99 ?_
            refine zr_add hx hb dX1_findBest_100 ?_
            refine sX_ways G hDD hS hP (p) (by omega) (by omega) dX1_findBest_101 (fun H locs hP hS => ?_)
            generalize e_Tc : Pri.of T1.b T1.O T1.U T1.B (updZ T1.Y (p) ((yk) + (0))) = Tc at hP
            have f_Tc : Tc.b = T1.b ∧ Tc.O = T1.O ∧ Tc.U = T1.U ∧ Tc.B = T1.B ∧ Tc.Y = updZ T1.Y (p) ((yk) + (0)) := by subst e_Tc; exact ⟨rfl, rfl, rfl, rfl, rfl⟩
            refine zr_incN (lv' := [(2, .int (iZ (((p + k + 1 + 1 : Nat) : Int)))), (4, .int (iZ ((pb_lc S T.b p (p + k + 1)) + (T.B (p + k + 1))))), (3, .int (iZ (pb_lc S T.b p (p + k + 1)))), (0, .ref (h 0)), (1, .int (iZ ((p : Int))))]) hx hb dX1_findBest_102 hl 2 rfl (by decide) rfl (fun ls hl => ?_)
            refine lv_goto (tgt := 4) hx hb dX1_findBest_105 (by decide) ?_
            exact ih Tc H locs ls (by omega) ⟨hP, hS, by
              unfold FB
              rw [show pb_fb (pb_lc S T.b p) T.B T.Y p (T.B p) (T.Y p) (k + 1) = (bk, yk + 0) from by rw [pb_fb, if_pos ⟨by omega, by omega⟩, e_bk, e_yk, if_neg (by omega), if_neg (by omega)]]
              refine ⟨by rw [f_Tc.1, fb], by rw [f_Tc.2.1, fO], by rw [f_Tc.2.2.1, fU], fun j hj => ⟨?_, ?_⟩, ?_, ?_⟩
              · rw [f_Tc.2.2.2.1]; exact (fj j hj).1
              · rw [f_Tc.2.2.2.2, updZ_n _ _ hj]; exact (fj j hj).2
              · rw [f_Tc.2.2.2.1]; exact fBp
              · rw [f_Tc.2.2.2.2, updZ_s]⟩ (lv_sub hl [0, 3, 4] rfl)
          · have h_87 := c_87
            refine lv_aload_n hx hb dX1_findBest_90 rfl (lv_at hl 3 rfl) ?_
            refine gX_ways G hP dX1_findBest_91 ?_
            refine lv_iload_n hx hb dX1_findBest_94 rfl (lv_at hl 2 rfl) ?_
            refine aX_ways G hP (p + k + 1) (by omega) (by omega) dX1_findBest_95 ?_
            refine zr_eq (y := T.Y (p + k + 1)) (fYq) ?_
            refine lv_goto (tgt := 100) hx hb dX1_findBest_96 (by decide) ?_
            refine zr_add hx hb dX1_findBest_100 ?_
            refine sX_ways G hDD hS hP (p) (by omega) (by omega) dX1_findBest_101 (fun H locs hP hS => ?_)
            generalize e_Tc : Pri.of T1.b T1.O T1.U T1.B (updZ T1.Y (p) ((yk) + (T.Y (p + k + 1)))) = Tc at hP
            have f_Tc : Tc.b = T1.b ∧ Tc.O = T1.O ∧ Tc.U = T1.U ∧ Tc.B = T1.B ∧ Tc.Y = updZ T1.Y (p) ((yk) + (T.Y (p + k + 1))) := by subst e_Tc; exact ⟨rfl, rfl, rfl, rfl, rfl⟩
            refine zr_incN (lv' := [(2, .int (iZ (((p + k + 1 + 1 : Nat) : Int)))), (4, .int (iZ ((pb_lc S T.b p (p + k + 1)) + (T.B (p + k + 1))))), (3, .int (iZ (pb_lc S T.b p (p + k + 1)))), (0, .ref (h 0)), (1, .int (iZ ((p : Int))))]) hx hb dX1_findBest_102 hl 2 rfl (by decide) rfl (fun ls hl => ?_)
            refine lv_goto (tgt := 4) hx hb dX1_findBest_105 (by decide) ?_
            exact ih Tc H locs ls (by omega) ⟨hP, hS, by
              unfold FB
              rw [show pb_fb (pb_lc S T.b p) T.B T.Y p (T.B p) (T.Y p) (k + 1) = (bk, yk + T.Y (p + k + 1)) from by rw [pb_fb, if_pos ⟨by omega, by omega⟩, e_bk, e_yk, if_neg (by omega), if_pos (by omega)]]
              refine ⟨by rw [f_Tc.1, fb], by rw [f_Tc.2.1, fO], by rw [f_Tc.2.2.1, fU], fun j hj => ⟨?_, ?_⟩, ?_, ?_⟩
              · rw [f_Tc.2.2.2.1]; exact (fj j hj).1
              · rw [f_Tc.2.2.2.2, updZ_n _ _ hj]; exact (fj j hj).2
              · rw [f_Tc.2.2.2.1]; exact fBp
              · rw [f_Tc.2.2.2.2, updZ_s]⟩ (lv_sub hl [0, 3, 4] rfl)
        · have h_54 := c_54
          refine lv_aload_n hx hb dX1_findBest_57 rfl (lv_at hl 3 rfl) ?_
          refine gX_best G hP dX1_findBest_58 ?_
          refine lv_iload_n hx hb dX1_findBest_61 rfl (lv_at hl 4 rfl) ?_
          refine lv_iload hx hb dX1_findBest_62 (lv_at hl 0 rfl) ?_
          refine sX_best G hDD hS hP (p) (by omega) (by omega) dX1_findBest_64 (fun H locs hP hS => ?_)
          generalize e_Ta : Pri.of T1.b T1.O T1.U (updZ T1.B (p) ((pb_lc S T.b p (p + k + 1)) + (T.B (p + k + 1)))) T1.Y = Ta at hP
          have f_Ta : Ta.b = T1.b ∧ Ta.O = T1.O ∧ Ta.U = T1.U ∧ Ta.B = updZ T1.B (p) ((pb_lc S T.b p (p + k + 1)) + (T.B (p + k + 1))) ∧ Ta.Y = T1.Y := by subst e_Ta; exact ⟨rfl, rfl, rfl, rfl, rfl⟩
          refine lv_aload_n hx hb dX1_findBest_65 rfl (lv_at hl 3 rfl) ?_
          refine gX_ways G hP dX1_findBest_66 ?_
          refine lv_iload_n hx hb dX1_findBest_69 rfl (lv_at hl 4 rfl) ?_
          refine zr_const hx hb dX1_findBest_70 ?_
          refine sX_ways G hDD hS hP (p) (by omega) (by omega) dX1_findBest_71 (fun H locs hP hS => ?_)
          generalize e_Tb : Pri.of Ta.b Ta.O Ta.U Ta.B (updZ Ta.Y (p) (0)) = Tb at hP
          have f_Tb : Tb.b = Ta.b ∧ Tb.O = Ta.O ∧ Tb.U = Ta.U ∧ Tb.B = Ta.B ∧ Tb.Y = updZ Ta.Y (p) (0) := by subst e_Tb; exact ⟨rfl, rfl, rfl, rfl, rfl⟩
          refine lv_aload_n hx hb dX1_findBest_72 rfl (lv_at hl 3 rfl) ?_
          refine gX_ways G hP dX1_findBest_73 ?_
          refine lv_iload_n hx hb dX1_findBest_76 rfl (lv_at hl 4 rfl) ?_
          refine lv_dup2_11 hx hb dX1_findBest_77 rfl rfl ?_
          refine aX_ways G hP (p) (by omega) (by omega) dX1_findBest_78 ?_
          refine zr_eq (y := 0) (by rw [f_Tb.2.2.2.2, updZ_s]) ?_
          refine lv_iload hx hb dX1_findBest_79 (lv_at hl 0 rfl) ?_
          refine lv_aload_n hx hb dX1_findBest_81 rfl (lv_at hl 3 rfl) ?_
          refine gX_best G hP dX1_findBest_82 ?_
          refine lv_iload_n hx hb dX1_findBest_85 rfl (lv_at hl 4 rfl) ?_
          refine aX_best G hP (p) (by omega) (by omega) dX1_findBest_86 ?_
          refine zr_eq (y := pb_lc S T.b p (p + k + 1) + T.B (p + k + 1)) (by rw [f_Tb.2.2.2.1, f_Ta.2.2.2.1, updZ_s]) ?_
          refine zr_icmp_ne (tgt := 99) hx hb dX1_findBest_87 (by decide) (by unfold Rng; omega) (fun c_87 => ?_) (fun c_87 => ?_)
          · exact absurd rfl c_87
          · have h_87 := c_87
            refine lv_aload_n hx hb dX1_findBest_90 rfl (lv_at hl 3 rfl) ?_
            refine gX_ways G hP dX1_findBest_91 ?_
            refine lv_iload_n hx hb dX1_findBest_94 rfl (lv_at hl 2 rfl) ?_
            refine aX_ways G hP (p + k + 1) (by omega) (by omega) dX1_findBest_95 ?_
            refine zr_eq (y := T.Y (p + k + 1)) (by rw [f_Tb.2.2.2.2, updZ_n _ _ (by omega), f_Ta.2.2.2.2, fYq]) ?_
            refine lv_goto (tgt := 100) hx hb dX1_findBest_96 (by decide) ?_
            refine zr_add hx hb dX1_findBest_100 ?_
            refine sX_ways G hDD hS hP (p) (by omega) (by omega) dX1_findBest_101 (fun H locs hP hS => ?_)
            generalize e_Tc : Pri.of Tb.b Tb.O Tb.U Tb.B (updZ Tb.Y (p) ((0) + (T.Y (p + k + 1)))) = Tc at hP
            have f_Tc : Tc.b = Tb.b ∧ Tc.O = Tb.O ∧ Tc.U = Tb.U ∧ Tc.B = Tb.B ∧ Tc.Y = updZ Tb.Y (p) ((0) + (T.Y (p + k + 1))) := by subst e_Tc; exact ⟨rfl, rfl, rfl, rfl, rfl⟩
            refine zr_incN (lv' := [(2, .int (iZ (((p + k + 1 + 1 : Nat) : Int)))), (4, .int (iZ ((pb_lc S T.b p (p + k + 1)) + (T.B (p + k + 1))))), (3, .int (iZ (pb_lc S T.b p (p + k + 1)))), (0, .ref (h 0)), (1, .int (iZ ((p : Int))))]) hx hb dX1_findBest_102 hl 2 rfl (by decide) rfl (fun ls hl => ?_)
            refine lv_goto (tgt := 4) hx hb dX1_findBest_105 (by decide) ?_
            exact ih Tc H locs ls (by omega) ⟨hP, hS, by
              unfold FB
              rw [show pb_fb (pb_lc S T.b p) T.B T.Y p (T.B p) (T.Y p) (k + 1) = (pb_lc S T.b p (p + k + 1) + T.B (p + k + 1), T.Y (p + k + 1)) from by rw [pb_fb, if_pos ⟨by omega, by omega⟩, e_bk, if_pos (by omega)]]
              refine ⟨by rw [f_Tc.1, f_Tb.1, f_Ta.1, fb], by rw [f_Tc.2.1, f_Tb.2.1, f_Ta.2.1, fO], by rw [f_Tc.2.2.1, f_Tb.2.2.1, f_Ta.2.2.1, fU], fun j hj => ⟨?_, ?_⟩, ?_, ?_⟩
              · rw [f_Tc.2.2.2.1, f_Tb.2.2.2.1, f_Ta.2.2.2.1, updZ_n _ _ hj]; exact (fj j hj).1
              · rw [f_Tc.2.2.2.2, updZ_n _ _ hj, f_Tb.2.2.2.2, updZ_n _ _ hj, f_Ta.2.2.2.2]; exact (fj j hj).2
              · rw [f_Tc.2.2.2.1, f_Tb.2.2.2.1, f_Ta.2.2.2.1, updZ_s]
              · rw [f_Tc.2.2.2.2, updZ_s]; dsimp only; omega⟩ (lv_sub hl [0, 3, 4] rfl)
def L1 (S : Par) (T T' : Pri) (i : Nat) : Prop := T'.b = T.b ∧ ∀ j, j < i → T'.O j = (if j = S.c then 0 else 1000000) ∧ T'.B j = 1000000 ∧ T'.Y j = 0
def L2 (S : Par) (T T' : Pri) (n p : Nat) : Prop := T'.b = T.b ∧ (∀ m q, m ≤ 10 → q ≤ 10 → (m < n ∨ (m = n ∧ q < p)) → T'.O (m * 11 + q) = pb_on (pb_lc S T.b) S.c m q) ∧ ∀ j, j ≤ 10 → T'.B j = (pb_bw (pb_lc S T.b) S.c 0).1 j ∧ T'.Y j = (pb_bw (pb_lc S T.b) S.c 0).2 j
def L3 (S : Par) (T T' : Pri) (k : Nat) : Prop := T'.b = T.b ∧ (∀ m q, m ≤ 10 → q ≤ 10 → T'.O (m * 11 + q) = pb_on (pb_lc S T.b) S.c m q) ∧ ∀ j, j ≤ 10 → T'.B j = (pb_bw (pb_lc S T.b) S.c k).1 j ∧ T'.Y j = (pb_bw (pb_lc S T.b) S.c k).2 j
theorem l2_lo {S : Par} {T T' : Pri} {n p : Nat} (h : L2 S T T' n p) (hn : 1 ≤ n) (hn10 : n ≤ 10) (hc : S.c ≤ 10) : pb_lo (pb_lc S T'.b p) (fun q => T'.O ((n - 1) * 11 + q)) p (S.c - p) = pb_on (pb_lc S T.b) S.c n p := by
  obtain ⟨m, rfl⟩ : ∃ m, n = m + 1 := ⟨n - 1, by omega⟩
  rw [h.1]
  simp only [pb_on, Nat.add_sub_cancel]
  exact th_lo_congr _ (fun q a b => h.2.1 m q (by omega) (by omega) (Or.inl (by omega)))
theorem l2_bd {S : Par} {T T' : Pri} {n p : Nat} (hok : pb_Ok S) (h : L2 S T T' n p) (hn : 1 ≤ n) (hn10 : n ≤ 10) : ∀ q, q ≤ 10 → -400 ≤ T'.O ((n - 1) * 11 + q) ∧ T'.O ((n - 1) * 11 + q) ≤ 1000000 := by
  intro q hq
  rw [h.2.1 (n - 1) q (by omega) hq (Or.inl (by omega))]
  exact ⟨th_on_low (th_lb_of hok T.b) (by omega) q, th_on_far _ _ _ _⟩
theorem l2_step {S : Par} {T T1 T2 : Pri} {n p : Nat} {x : Int} (h : L2 S T T1 n p) (hn10 : n ≤ 10) (hp : p ≤ 10) (hx : x = pb_on (pb_lc S T.b) S.c n p) (f : T2.b = T1.b ∧ T2.O = updZ T1.O (n * 11 + p) x ∧ T2.U = T1.U ∧ T2.B = T1.B ∧ T2.Y = T1.Y) : L2 S T T2 n (p + 1) := by
  refine ⟨by rw [f.1]; exact h.1, fun m q hm hq hmq => ?_, fun j hj => by rw [f.2.2.2.1, f.2.2.2.2]; exact h.2.2 j hj⟩
  rw [f.2.1]
  by_cases e : m = n ∧ q = p
  · obtain ⟨rfl, rfl⟩ := e
    rw [updZ_s]
    exact hx
  · rw [updZ_n _ _ (by omega)]
    exact h.2.1 m q hm hq (by omega)
theorem bw_bd {S : Par} (hok : pb_Ok S) (b : Int) {k : Nat} (hk : k ≤ S.c) (q : Nat) : -400 ≤ (pb_bw (pb_lc S b) S.c k).1 q ∧ (pb_bw (pb_lc S b) S.c k).1 q ≤ 1000000 := by
  by_cases h : q < S.c - k
  · rw [(th_bw_low _ _ k q h).1]; omega
  · rw [(th_bw_fin _ _ k q hk (by omega)).1]
    exact ⟨(th_be_bd (th_lb_of hok b) q).1, th_be_far _ _ _⟩
theorem l3_step {S : Par} {T T1 T2 : Pri} {k : Nat} (h : L3 S T T1 k) (hk : k < S.c) (hc : S.c ≤ 10) (f : FB S T1 (S.c - 1 - k) T2 (S.c - (S.c - 1 - k))) : L3 S T T2 (k + 1) := by
  obtain ⟨f1, f2, f3, f4, f5, f6⟩ := f
  have hcg := th_fb_congr (L := pb_lc S T.b (S.c - 1 - k)) (B := T1.B) (Y := T1.Y) (B' := (pb_bw (pb_lc S T.b) S.c k).1) (Y' := (pb_bw (pb_lc S T.b) S.c k).2) (p := S.c - 1 - k) (b0 := (pb_bw (pb_lc S T.b) S.c k).1 (S.c - 1 - k)) (y0 := (pb_bw (pb_lc S T.b) S.c k).2 (S.c - 1 - k)) (S.c - (S.c - 1 - k)) (fun q a b => (h.2.2 q (by omega)).1) (fun q a b => (h.2.2 q (by omega)).2)
  rw [h.1, (h.2.2 (S.c - 1 - k) (by omega)).1, (h.2.2 (S.c - 1 - k) (by omega)).2, hcg] at f5 f6
  refine ⟨by rw [f1]; exact h.1, by rw [f2]; exact h.2.1, fun j hj => ?_⟩
  simp only [pb_bw]
  by_cases e : j = S.c - 1 - k
  · subst e
    rw [updZ_s, updZ_s]
    exact ⟨f5, f6⟩
  · rw [updZ_n _ _ e, updZ_n _ _ e, (f4 j e).1, (f4 j e).2]
    exact h.2.2 j hj
set_option maxHeartbeats 4000000 in
set_option maxRecDepth 100000 in
/-- learn() -/
theorem mX_learn (l : Launch) (D : va_G) (dB dI : ClassId) (h : Nat → Nat) (S : Par) (T : Pri) (hok : pb_Ok S) (hb0 : -1 ≤ T.b ∧ T.b ≤ 10) : WRv l yX1_learn cX1_learn 3 ({ frames := 3, cells := 0, slots := 0, locals := 75 }) D (tyA dB dI) (wXu dB dI h) (S, T) [.ref (h 0)] (fun u => S = u.1 ∧ LT S u.2 T.b) := by
  refine WRv.mk (by decide) (Nat.le_of_ble_eq_true rfl) (wXu_adr dB dI h _) ?_
  intro pr e s m below meth c ls A G hr hlocks hA hD hS hP hl
  have G : CX pr m c cX1_learn 3 s _ D dB dI := G
  have hDD : ∀ S T, va_D A (wX dB dI h S T) := fun S T => hD (S, T)
  have hP : va_P D vwCl (wX dB dI h S T) s.heap := hP
  have hx := G.1.1
  have hb := G.1.2.1
  have hl : lv_has ls 3 [(0, .ref (h 0))] := hl
  have hc10 := hok.2.2.1
  refine zr_const hx hb dX1_learn_0 ?_
  refine zr_eq (y := ((0 : Nat) : Int)) (rfl) ?_
  refine lv_istore_n (lv' := [(1, .int (iZ (((0 : Nat) : Int)))), (0, .ref (h 0))]) hx hb dX1_learn_1 rfl hl (by decide) rfl (fun ls hl => ?_)
  refine zr_loopH (pc := 2) (nL := 3) (α := Pri) 11 (fun i _ => [(1, .int (iZ ((i : Nat) : Int))), (0, .ref (h 0))]) (fun i T1 H locs => va_P D vwCl (wX dB dI h S T1) H ∧ va_S A s.heap H locs ∧ L1 S T T1 i) ?_ 0 T s.heap [] ls (Nat.zero_le _) ⟨hP, hS, rfl, fun j hj => by omega⟩ (lv_sub hl [0, 1] rfl)
  clear hP hS
  intro i T1 H locs ls hi hC hl ih
  obtain ⟨hP, hS, hF⟩ := hC
  have hl : lv_has ls 3 [(1, .int (iZ ((i : Nat) : Int))), (0, .ref (h 0))] := hl
  refine lv_iload_n hx hb dX1_learn_2 rfl (lv_at hl 0 rfl) ?_
  refine zr_bipush hx hb dX1_learn_3 (by decide) ?_
  refine zr_icmp_gt (tgt := 49) hx hb dX1_learn_5 (by decide) (by unfold Rng; omega) (fun c_5 => ?_) (fun c_5 => ?_)
  · have hi11 : i = 11 := by omega
    subst hi11
    refine lv_aload_n hx hb dX1_learn_49 rfl (lv_at hl 1 rfl) ?_
    refine gX_best G hP dX1_learn_50 ?_
    refine lv_aload_n hx hb dX1_learn_53 rfl (lv_at hl 1 rfl) ?_
    refine gX_count G hP dX1_learn_54 ?_
    refine zr_const hx hb dX1_learn_57 ?_
    refine sX_best G hDD hS hP (S.c) (by omega) (by omega) dX1_learn_58 (fun H locs hP hS => ?_)
    generalize e_Td : Pri.of T1.b T1.O T1.U (updZ T1.B (S.c) (0)) T1.Y = Td at hP
    have f_Td : Td.b = T1.b ∧ Td.O = T1.O ∧ Td.U = T1.U ∧ Td.B = updZ T1.B (S.c) (0) ∧ Td.Y = T1.Y := by subst e_Td; exact ⟨rfl, rfl, rfl, rfl, rfl⟩
    refine lv_aload_n hx hb dX1_learn_59 rfl (lv_at hl 1 rfl) ?_
    refine gX_ways G hP dX1_learn_60 ?_
    refine lv_aload_n hx hb dX1_learn_63 rfl (lv_at hl 1 rfl) ?_
    refine gX_count G hP dX1_learn_64 ?_
    refine zr_const hx hb dX1_learn_67 ?_
    refine sX_ways G hDD hS hP (S.c) (by omega) (by omega) dX1_learn_68 (fun H locs hP hS => ?_)
    generalize e_Te : Pri.of Td.b Td.O Td.U Td.B (updZ Td.Y (S.c) (1)) = Te at hP
    have f_Te : Te.b = Td.b ∧ Te.O = Td.O ∧ Te.U = Td.U ∧ Te.B = Td.B ∧ Te.Y = updZ Td.Y (S.c) (1) := by subst e_Te; exact ⟨rfl, rfl, rfl, rfl, rfl⟩
    have hL2 : L2 S T Te 1 0 := by
      refine ⟨by rw [f_Te.1, f_Td.1]; exact hF.1, fun m q hm hq hmq => ?_, fun j hj => ?_⟩
      · rw [show m = 0 by omega, show 0 * 11 + q = q by omega, f_Te.2.1, f_Td.2.1, (hF.2 q (by omega)).1]
        simp only [pb_on]
      · rw [f_Te.2.2.2.1, f_Td.2.2.2.1, f_Te.2.2.2.2, f_Td.2.2.2.2]
        simp only [pb_bw]
        by_cases e : j = S.c
        · rw [e, updZ_s, updZ_s, if_pos rfl, if_pos rfl]; exact ⟨rfl, rfl⟩
        · rw [updZ_n _ _ e, updZ_n _ _ e, if_neg e, if_neg e]; exact (hF.2 j (by omega)).2
    refine zr_const hx hb dX1_learn_69 ?_
    refine zr_eq (y := ((1 : Nat) : Int)) (rfl) ?_
    refine lv_istore_n (lv' := [(1, .int (iZ (((1 : Nat) : Int)))), (0, .ref (h 0))]) hx hb dX1_learn_70 rfl hl (by decide) rfl (fun ls hl => ?_)
    refine zr_loopH (pc := 71) (nL := 3) (α := Pri) 11 (fun n _ => [(1, .int (iZ ((n : Nat) : Int))), (0, .ref (h 0))]) (fun n T1 H locs => va_P D vwCl (wX dB dI h S T1) H ∧ va_S A s.heap H locs ∧ L2 S T T1 n 0 ∧ 1 ≤ n) ?_ 1 Te H locs ls (by omega) ⟨hP, hS, hL2, Nat.le_refl 1⟩ (lv_sub hl [0, 1] rfl)
    clear hP hS hL2
    intro n T1 H locs ls hn hC hl ih
    obtain ⟨hP, hS, hF, hn1⟩ := hC
    have hl : lv_has ls 3 [(1, .int (iZ ((n : Nat) : Int))), (0, .ref (h 0))] := hl
    refine lv_iload_n hx hb dX1_learn_71 rfl (lv_at hl 0 rfl) ?_
    refine zr_bipush hx hb dX1_learn_72 (by decide) ?_
    refine zr_icmp_gt (tgt := 114) hx hb dX1_learn_74 (by decide) (by unfold Rng; omega) (fun c_74 => ?_) (fun c_74 => ?_)
    · have hn11 : n = 11 := by omega
      subst hn11
      have hL3 : L3 S T T1 0 := ⟨hF.1, fun m q hm hq => hF.2.1 m q hm hq (Or.inl (by omega)), hF.2.2⟩
      refine lv_aload_n hx hb dX1_learn_114 rfl (lv_at hl 1 rfl) ?_
      refine gX_count G hP dX1_learn_115 ?_
      refine zr_const hx hb dX1_learn_118 ?_
      refine zr_sub hx hb dX1_learn_119 ?_
      refine lv_istore_n (lv' := [(1, .int (iZ (((S.c : Int)) - (1)))), (0, .ref (h 0))]) hx hb dX1_learn_120 rfl hl (by decide) rfl (fun ls hl => ?_)
      refine zr_loopH (pc := 121) (nL := 3) (α := Pri) S.c (fun k _ => [(1, .int (iZ ((S.c : Int) - 1 - ((k : Nat) : Int)))), (0, .ref (h 0))]) (fun k T1 H locs => va_P D vwCl (wX dB dI h S T1) H ∧ va_S A s.heap H locs ∧ L3 S T T1 k) ?_ 0 T1 H locs ls (Nat.zero_le _) ⟨hP, hS, hL3⟩ (by
        show lv_has ls 3 [(1, .int (iZ ((S.c : Int) - 1 - ((0 : Nat) : Int)))), (0, .ref (h 0))]
        rw [show (S.c : Int) - 1 - ((0 : Nat) : Int) = (S.c : Int) - 1 by omega]
        exact lv_sub hl [0, 1] rfl)
      clear hP hS hL3 hF
      intro k T3 H locs ls hk hC hl ih3
      obtain ⟨hP, hS, hF⟩ := hC
      have hl : lv_has ls 3 [(1, .int (iZ ((S.c : Int) - 1 - ((k : Nat) : Int)))), (0, .ref (h 0))] := hl
      refine lv_iload_n hx hb dX1_learn_121 rfl (lv_at hl 0 rfl) ?_
      refine zr_if_lt (tgt := 136) hx hb dX1_learn_122 (by decide) (by unfold Rng; omega) (fun c_122 => ?_) (fun c_122 => ?_)
      · have hkc : k = S.c := by omega
        subst hkc
        exact wr_vret hx hb hr hlocks hS (S, T3) hP ⟨rfl, hF.1, hF.2.1, hF.2.2⟩ dX1_learn_136
      · refine lv_aload_n hx hb dX1_learn_125 rfl (lv_at hl 1 rfl) ?_
        refine lv_iload_n hx hb dX1_learn_126 rfl (lv_at hl 0 rfl) ?_
        refine zr_eq (y := ((S.c - 1 - k : Nat) : Int)) (by omega) ?_
        refine wr_callv (rest := []) (As := [.int (iZ (((S.c - 1 - k : Nat) : Int)))]) (w := wXu dB dI h) (u0 := (S, T3)) G.1 (mX_findBest l D dB dI h S T3 hok (by rw [hF.1]; exact hb0) (S.c - 1 - k) (by omega) (fun q hq => by rw [(hF.2.2 q hq).1]; exact bw_bd hok T.b (by omega) q)) (lw_V q116 q118 qs6 q21 q119) hd_X1_findBest ⟨⟨rfl, rfl⟩, Nat.le_of_ble_eq_true rfl, Nat.le_of_ble_eq_true rfl⟩ G.2 hP (hD _) hS hA (wX_0 ..) rfl rfl hl.1 rfl (Nat.le_of_ble_eq_true rfl) dX1_learn_127 ⟨Nat.zero_le _, Nat.zero_le _⟩ (fun u3 H locs hp3 hP hS => ?_)
        obtain ⟨S3, T3⟩ := u3
        obtain ⟨eS, hT⟩ := hp3
        dsimp only at eS hT
        subst eS
        have hP : va_P D vwCl (wX dB dI h S T3) H := hP
        refine zr_inc (lv' := [(1, .int (iZ (((S.c : Int) - 1 - ((k : Nat) : Int)) + (-1)))), (0, .ref (h 0))]) hx hb dX1_learn_130 hl 0 rfl (by decide) rfl (fun ls hl => ?_)
        refine lv_goto (tgt := 121) hx hb dX1_learn_133 (by decide) ?_
        exact ih3 T3 H locs ls (by omega) ⟨hP, hS, l3_step hF (by omega) hc10 hT⟩ (by
          show lv_has ls 3 [(1, .int (iZ ((S.c : Int) - 1 - ((k + 1 : Nat) : Int)))), (0, .ref (h 0))]
          rw [show (S.c : Int) - 1 - ((k + 1 : Nat) : Int) = (S.c : Int) - 1 - ((k : Nat) : Int) + (-1) by omega]
          exact lv_sub hl [0, 1] rfl)
    · refine zr_const hx hb dX1_learn_77 ?_
      refine zr_eq (y := ((0 : Nat) : Int)) (rfl) ?_
      refine lv_istore_n (lv' := [(2, .int (iZ (((0 : Nat) : Int)))), (1, .int (iZ (((n : Nat) : Int)))), (0, .ref (h 0))]) hx hb dX1_learn_78 rfl hl (by decide) rfl (fun ls hl => ?_)
      refine zr_loopH (pc := 79) (nL := 3) (α := Pri) 11 (fun p _ => [(2, .int (iZ ((p : Nat) : Int))), (1, .int (iZ ((n : Nat) : Int))), (0, .ref (h 0))]) (fun p T1 H locs => va_P D vwCl (wX dB dI h S T1) H ∧ va_S A s.heap H locs ∧ L2 S T T1 n p) ?_ 0 T1 H locs ls (Nat.zero_le _) ⟨hP, hS, hF⟩ (lv_sub hl [0, 1, 2] rfl)
      clear hP hS hF
      intro p T2 H locs ls hp hC hl ih2
      obtain ⟨hP, hS, hF2⟩ := hC
      have hl : lv_has ls 3 [(2, .int (iZ ((p : Nat) : Int))), (1, .int (iZ ((n : Nat) : Int))), (0, .ref (h 0))] := hl
      refine lv_iload_n hx hb dX1_learn_79 rfl (lv_at hl 0 rfl) ?_
      refine zr_bipush hx hb dX1_learn_80 (by decide) ?_
      refine zr_icmp_gt (tgt := 108) hx hb dX1_learn_82 (by decide) (by unfold Rng; omega) (fun c_82 => ?_) (fun c_82 => ?_)
      · have hp11 : p = 11 := by omega
        refine zr_incN (lv' := [(1, .int (iZ (((n + 1 : Nat) : Int)))), (2, .int (iZ (((p : Nat) : Int)))), (0, .ref (h 0))]) hx hb dX1_learn_108 hl 1 rfl (by decide) rfl (fun ls hl => ?_)
        refine lv_goto (tgt := 71) hx hb dX1_learn_111 (by decide) ?_
        exact ih T2 H locs ls (by omega) ⟨hP, hS, ⟨hF2.1, fun m q hm hq hmq => hF2.2.1 m q hm hq (by omega), hF2.2.2⟩, by omega⟩ (lv_sub hl [0, 2] rfl)
      · refine lv_aload_n hx hb dX1_learn_85 rfl (lv_at hl 2 rfl) ?_
        refine gX_onward G hP dX1_learn_86 ?_
        refine lv_iload_n hx hb dX1_learn_89 rfl (lv_at hl 1 rfl) ?_
        refine zr_bipush hx hb dX1_learn_90 (by decide) ?_
        refine zr_mul hx hb dX1_learn_92 ?_
        refine lv_iload_n hx hb dX1_learn_93 rfl (lv_at hl 0 rfl) ?_
        refine zr_add hx hb dX1_learn_94 ?_
        refine lv_aload_n hx hb dX1_learn_95 rfl (lv_at hl 2 rfl) ?_
        refine lv_iload_n hx hb dX1_learn_96 rfl (lv_at hl 1 rfl) ?_
        refine lv_iload_n hx hb dX1_learn_97 rfl (lv_at hl 0 rfl) ?_
        refine zr_callV (rest := [.int (iZ (((((n : Nat) : Int)) * (11)) + (((p : Nat) : Int)))), .ref (h 3)]) (As := [.int (iZ (((n : Nat) : Int))), .int (iZ (((p : Nat) : Int)))]) G.1 (mX_leastOnward l D dB dI h S T2 hok (by rw [hF2.1]; exact hb0) n p (by omega) (by omega) (l2_bd hok hF2 hn1 (by omega))) (lw_V q100 q102 qs2 q21 q103) hd_X1_leastOnward ⟨⟨rfl, rfl⟩, Nat.le_of_ble_eq_true rfl, Nat.le_of_ble_eq_true rfl⟩ G.2 hP (wX_0 ..) rfl rfl hl.1 rfl (Nat.le_of_ble_eq_true rfl) dX1_learn_98 ⟨Nat.zero_le _, Nat.zero_le _⟩ ?_
        refine zr_eq (y := pb_on (pb_lc S T.b) S.c n p) (l2_lo hF2 hn1 (by omega) hc10) ?_
        refine sX_onward G hDD hS hP (n * 11 + p) (by omega) (by omega) dX1_learn_101 (fun H locs hP hS => ?_)
        generalize e_Tf : Pri.of T2.b (updZ T2.O (n * 11 + p) (pb_on (pb_lc S T.b) S.c n p)) T2.U T2.B T2.Y = Tf at hP
        have f_Tf : Tf.b = T2.b ∧ Tf.O = updZ T2.O (n * 11 + p) (pb_on (pb_lc S T.b) S.c n p) ∧ Tf.U = T2.U ∧ Tf.B = T2.B ∧ Tf.Y = T2.Y := by subst e_Tf; exact ⟨rfl, rfl, rfl, rfl, rfl⟩
        refine zr_incN (lv' := [(2, .int (iZ (((p + 1 : Nat) : Int)))), (1, .int (iZ (((n : Nat) : Int)))), (0, .ref (h 0))]) hx hb dX1_learn_102 hl 0 rfl (by decide) rfl (fun ls hl => ?_)
        refine lv_goto (tgt := 79) hx hb dX1_learn_105 (by decide) ?_
        exact ih2 Tf H locs ls (by omega) ⟨hP, hS, l2_step hF2 (by omega) (by omega) rfl f_Tf⟩ (lv_sub hl [0, 1, 2] rfl)
  · refine lv_aload_n hx hb dX1_learn_8 rfl (lv_at hl 1 rfl) ?_
    refine gX_onward G hP dX1_learn_9 ?_
    refine lv_iload_n hx hb dX1_learn_12 rfl (lv_at hl 0 rfl) ?_
    refine zr_join (α := Int) (fun x => F0 m 27 ls (.int (iZ x) :: [.int (iZ (((i : Nat) : Int))), .ref (h 3)])) (fun x => x = (if i = S.c then 0 else 1000000)) (fun J => ?_) (fun x0 e_x0 => ?_)
    · refine lv_iload_n hx hb dX1_learn_13 rfl (lv_at hl 0 rfl) ?_
      refine lv_aload_n hx hb dX1_learn_14 rfl (lv_at hl 1 rfl) ?_
      refine gX_count G hP dX1_learn_15 ?_
      refine zr_icmp_ne (tgt := 25) hx hb dX1_learn_18 (by decide) (by unfold Rng; omega) (fun c_18 => ?_) (fun c_18 => ?_)
      · refine zr_ldc (n := 1000000) hx hb G.1.2.2.2.1 (G.1.2.2.2.2 _ q99) dX1_learn_25 (by decide) ?_
        exact J _ (by rw [if_neg (by omega)])
      · refine zr_const hx hb dX1_learn_21 ?_
        refine lv_goto (tgt := 27) hx hb dX1_learn_22 (by decide) ?_
        exact J _ (by rw [if_pos (by omega)])
    · refine sX_onward G hDD hS hP (i) (by omega) (by omega) dX1_learn_27 (fun H locs hP hS => ?_)
      generalize e_Ta : Pri.of T1.b (updZ T1.O (i) (x0)) T1.U T1.B T1.Y = Ta at hP
      have f_Ta : Ta.b = T1.b ∧ Ta.O = updZ T1.O (i) (x0) ∧ Ta.U = T1.U ∧ Ta.B = T1.B ∧ Ta.Y = T1.Y := by subst e_Ta; exact ⟨rfl, rfl, rfl, rfl, rfl⟩
      refine lv_aload_n hx hb dX1_learn_28 rfl (lv_at hl 1 rfl) ?_
      refine gX_best G hP dX1_learn_29 ?_
      refine lv_iload_n hx hb dX1_learn_32 rfl (lv_at hl 0 rfl) ?_
      refine zr_ldc (n := 1000000) hx hb G.1.2.2.2.1 (G.1.2.2.2.2 _ q99) dX1_learn_33 (by decide) ?_
      refine sX_best G hDD hS hP (i) (by omega) (by omega) dX1_learn_35 (fun H locs hP hS => ?_)
      generalize e_Tb : Pri.of Ta.b Ta.O Ta.U (updZ Ta.B (i) (1000000)) Ta.Y = Tb at hP
      have f_Tb : Tb.b = Ta.b ∧ Tb.O = Ta.O ∧ Tb.U = Ta.U ∧ Tb.B = updZ Ta.B (i) (1000000) ∧ Tb.Y = Ta.Y := by subst e_Tb; exact ⟨rfl, rfl, rfl, rfl, rfl⟩
      refine lv_aload_n hx hb dX1_learn_36 rfl (lv_at hl 1 rfl) ?_
      refine gX_ways G hP dX1_learn_37 ?_
      refine lv_iload_n hx hb dX1_learn_40 rfl (lv_at hl 0 rfl) ?_
      refine zr_const hx hb dX1_learn_41 ?_
      refine sX_ways G hDD hS hP (i) (by omega) (by omega) dX1_learn_42 (fun H locs hP hS => ?_)
      generalize e_Tc : Pri.of Tb.b Tb.O Tb.U Tb.B (updZ Tb.Y (i) (0)) = Tc at hP
      have f_Tc : Tc.b = Tb.b ∧ Tc.O = Tb.O ∧ Tc.U = Tb.U ∧ Tc.B = Tb.B ∧ Tc.Y = updZ Tb.Y (i) (0) := by subst e_Tc; exact ⟨rfl, rfl, rfl, rfl, rfl⟩
      refine zr_incN (lv' := [(1, .int (iZ (((i + 1 : Nat) : Int)))), (0, .ref (h 0))]) hx hb dX1_learn_43 hl 0 rfl (by decide) rfl (fun ls hl => ?_)
      refine lv_goto (tgt := 2) hx hb dX1_learn_46 (by decide) ?_
      exact ih Tc H locs ls (by omega) ⟨hP, hS, by rw [f_Tc.1, f_Tb.1, f_Ta.1]; exact hF.1, fun j hj => by
        rw [f_Tc.2.1, f_Tb.2.1, f_Ta.2.1, f_Tc.2.2.2.1, f_Tb.2.2.2.1, f_Tc.2.2.2.2]
        by_cases e : j = i
        · subst e; rw [updZ_s, updZ_s, updZ_s]; exact ⟨e_x0, rfl, rfl⟩
        · rw [updZ_n _ _ e, updZ_n _ _ e, updZ_n _ _ e, f_Ta.2.2.2.1, f_Tb.2.2.2.2, f_Ta.2.2.2.2]; exact hF.2 j (by omega)⟩ (lv_sub hl [0, 1] rfl)
set_option maxHeartbeats 4000000 in
set_option maxRecDepth 100000 in
/-- start() -/
theorem mX_start (l : Launch) (D : va_G) (dB dI : ClassId) (h : Nat → Nat) (S : Par) (T : Pri) (hok : pb_Ok S) : WRv l yX1_start cX1_start 1 ({ frames := 4, cells := 0, slots := 0, locals := 97 }) D (tyA dB dI) (wXu dB dI h) (S, T) [.ref (h 0)] (fun u => S = u.1 ∧ LT S u.2 (-1)) := by
  refine WRv.mk (by decide) (Nat.le_of_ble_eq_true rfl) (wXu_adr dB dI h _) ?_
  intro pr e s m below meth c ls A G hr hlocks hA hD hS hP hl
  have G : CX pr m c cX1_start 1 s _ D dB dI := G
  have hDD : ∀ S T, va_D A (wX dB dI h S T) := fun S T => hD (S, T)
  have hP : va_P D vwCl (wX dB dI h S T) s.heap := hP
  have hx := G.1.1
  have hb := G.1.2.1
  have hl : lv_has ls 1 [(0, .ref (h 0))] := hl
  refine lv_aload_n hx hb dX1_start_0 rfl (lv_at hl 0 rfl) ?_
  refine zr_const hx hb dX1_start_1 ?_
  refine pX_barred (x := -1) G hDD hS hP dX1_start_2 (fun H locs hP hS => ?_)
  generalize e_T1 : Pri.of (-1) T.O T.U T.B T.Y = T1 at hP
  have f_T1 : T1.b = -1 ∧ T1.O = T.O ∧ T1.U = T.U ∧ T1.B = T.B ∧ T1.Y = T.Y := by subst e_T1; exact ⟨rfl, rfl, rfl, rfl, rfl⟩
  refine lv_aload_n hx hb dX1_start_5 rfl (lv_at hl 0 rfl) ?_
  refine wr_callv (rest := []) (As := []) (w := wXu dB dI h) (u0 := (S, T1)) G.1 (mX_learn l D dB dI h S T1 hok (by rw [f_T1.1]; omega)) (lw_V q95 q97 qs1 q21 q98) hd_X1_learn ⟨⟨rfl, rfl⟩, Nat.le_of_ble_eq_true rfl, Nat.le_of_ble_eq_true rfl⟩ G.2 hP (hD _) hS hA (wX_0 ..) rfl rfl hl.1 rfl (Nat.le_of_ble_eq_true rfl) dX1_start_6 ⟨Nat.zero_le _, Nat.zero_le _⟩ (fun u2 H locs hp2 hP hS => ?_)
  obtain ⟨S2, T2⟩ := u2
  obtain ⟨eS, hT⟩ := hp2
  dsimp only at eS hT
  subst eS
  have hP : va_P D vwCl (wX dB dI h S T2) H := hP
  rw [f_T1.1] at hT
  exact wr_vret hx hb hr hlocks hS (S, T2) hP ⟨rfl, hT⟩ dX1_start_9
end
section
/-! THE COMPONENT's writing methods, 2: endOfLine, findUpTo and the answers -/
theorem th_fw_congr {O O' : Nat → Int} {b : Int} : ∀ k n, (∀ j, n ≤ j → j < n + k → O j = O' j) → pb_fw O b k n = pb_fw O' b k n := by
  intro k
  induction k with
  | zero => intro n _; rfl
  | succ k ih =>
    intro n h
    simp only [pb_fw]
    rw [h n (by omega) (by omega), ih (n + 1) (fun j a b => h j (by omega) (by omega))]
theorem th_fe_congr {L R R' : Nat → Int} {v : Int} {c : Nat} : ∀ k q, (∀ j, q ≤ j → j < q + k → R j = R' j) → pb_fe L R v c k q = pb_fe L R' v c k q := by
  intro k
  induction k with
  | zero => intro q _; rfl
  | succ k ih =>
    intro q h
    simp only [pb_fe]
    rw [h q (by omega) (by omega), ih (q + 1) (fun j a b => h j (by omega) (by omega))]
theorem lt_O {S : Par} {T : Pri} {b : Int} (hok : pb_Ok S) (hT : LT S T b) {n p : Nat} (hn : n ≤ 10) (hp : p ≤ 10) : -400 ≤ T.O (n * 11 + p) ∧ T.O (n * 11 + p) ≤ 1000000 := by
  rw [hT.2.1 n p hn hp]
  exact ⟨th_on_low (th_lb_of hok b) hn p, th_on_far _ _ _ _⟩
theorem lt_B {S : Par} {T : Pri} {b : Int} (hok : pb_Ok S) (hT : LT S T b) {p : Nat} (hp : p ≤ 10) : -400 ≤ T.B p ∧ T.B p ≤ 1000000 := by
  rw [(hT.2.2 p hp).1]
  exact ⟨(th_be_bd (th_lb_of hok b) p).1, th_be_far _ _ _⟩
theorem lt_fw {S : Par} {T : Pri} (hT : LT S T (-1)) : pb_fw (fun n => T.O (n * 11)) (T.B 0) 11 0 = pb_FW S := by
  rw [(hT.2.2 0 (by omega)).1]
  exact th_fw_congr 11 0 (fun j a b => hT.2.1 j 0 (by omega) (by omega))
theorem lt_fe {S : Par} {T : Pri} (hT : LT S T (-1)) {m p : Nat} (hm : 1 ≤ m ∧ m ≤ 10) (hp : p ≤ 10) (hc : S.c ≤ 10) : pb_fe (pb_lc S T.b p) (fun q => T.O ((m - 1) * 11 + q)) (T.O (m * 11 + p)) S.c (S.c - p) (p + 1) = pb_FE S m p := by
  rw [hT.1, hT.2.1 m p hm.2 hp]
  exact th_fe_congr (S.c - p) (p + 1) (fun j a b => hT.2.1 (m - 1) j (by omega) (by omega))
theorem fw_bd {S : Par} (hok : pb_Ok S) : -1 ≤ pb_FW S ∧ pb_FW S ≤ 10 := by
  rcases th_FW hok with ⟨a, _⟩ | ⟨n, a, b, _⟩ <;> omega
theorem fw_of {S : Par} (hok : pb_Ok S) (h : 0 ≤ pb_FW S) : ∃ n : Nat, pb_FW S = (n : Int) ∧ n ≤ 10 ∧ pb_on (pb_L S) S.c n 0 < 1000000 := by
  rcases th_FW hok with ⟨a, _⟩ | ⟨n, a, b, c, _⟩
  · omega
  · exact ⟨n, a, b, c⟩
theorem el_bd {S : Par} (hok : pb_Ok S) (k : Int) : -1 ≤ pb_EL S k ∧ pb_EL S k ≤ 10 := by
  have hc := hok.2.2.1
  rcases th_FW hok with ⟨a, _⟩ | ⟨n, a, b, f, _⟩
  · unfold pb_EL
    rw [a, if_pos (by omega)]
    omega
  · rw [th_EL a k]
    by_cases h : 0 ≤ k ∧ k < n
    · rw [if_pos h]
      have := (th_ED f (k.toNat + 1) (by omega)).2.1
      omega
    · rw [if_neg h]
      omega
theorem el_mono {S : Par} (hok : pb_Ok S) {k : Int} (h0 : 0 ≤ pb_EL S k) (hk : 0 < k) : 0 ≤ pb_EL S (k - 1) ∧ pb_EL S (k - 1) ≤ pb_EL S k := by
  rcases th_FW hok with ⟨a, _⟩ | ⟨n, a, b, f, _⟩
  · unfold pb_EL at h0
    rw [a, if_pos (by omega)] at h0
    omega
  · rw [th_EL a k] at h0
    by_cases h : 0 ≤ k ∧ k < n
    · rw [th_EL a k, th_EL a (k - 1), if_pos h, if_pos (by omega)]
      have := (th_ED_lt f (i := k.toNat) (by omega)).1
      rw [show (k - 1).toNat + 1 = k.toNat by omega]
      omega
    · rw [if_neg h] at h0
      omega
theorem xl_bd {S : Par} (hok : pb_Ok S) : 0 ≤ xa_lines S ∧ xa_lines S ≤ 10 := by
  have := fw_bd hok
  unfold xa_lines
  split <;> omega
theorem hd_X1_word : yX1_word.cls = RX1 ∧ yX1_word.cls ≠ "java/lang/invoke/MethodHandle" ∧ yX1_word.cls ≠ "java/lang/invoke/VarHandle" ∧ (parseMethodDescriptor yX1_word.desc).map (fun d => d.parameters.length) = some 2 := by decide +kernel
theorem hd_X1_back : yX1_back.cls = RX1 ∧ yX1_back.cls ≠ "java/lang/invoke/MethodHandle" ∧ yX1_back.cls ≠ "java/lang/invoke/VarHandle" ∧ (parseMethodDescriptor yX1_back.desc).map (fun d => d.parameters.length) = some 0 := by decide +kernel
theorem hd_X1_change : yX1_change.cls = RX1 ∧ yX1_change.cls ≠ "java/lang/invoke/MethodHandle" ∧ yX1_change.cls ≠ "java/lang/invoke/VarHandle" ∧ (parseMethodDescriptor yX1_change.desc).map (fun d => d.parameters.length) = some 3 := by decide +kernel
theorem hd_X1_setWidth : yX1_setWidth.cls = RX1 ∧ yX1_setWidth.cls ≠ "java/lang/invoke/MethodHandle" ∧ yX1_setWidth.cls ≠ "java/lang/invoke/VarHandle" ∧ (parseMethodDescriptor yX1_setWidth.desc).map (fun d => d.parameters.length) = some 1 := by decide +kernel
theorem hd_X1_words : yX1_words.cls = RX1 ∧ yX1_words.cls ≠ "java/lang/invoke/MethodHandle" ∧ yX1_words.cls ≠ "java/lang/invoke/VarHandle" ∧ (parseMethodDescriptor yX1_words.desc).map (fun d => d.parameters.length) = some 0 := by decide +kernel
theorem hd_X1_cost : yX1_cost.cls = RX1 ∧ yX1_cost.cls ≠ "java/lang/invoke/MethodHandle" ∧ yX1_cost.cls ≠ "java/lang/invoke/VarHandle" ∧ (parseMethodDescriptor yX1_cost.desc).map (fun d => d.parameters.length) = some 0 := by decide +kernel
theorem hd_X1_lineOf : yX1_lineOf.cls = RX1 ∧ yX1_lineOf.cls ≠ "java/lang/invoke/MethodHandle" ∧ yX1_lineOf.cls ≠ "java/lang/invoke/VarHandle" ∧ (parseMethodDescriptor yX1_lineOf.desc).map (fun d => d.parameters.length) = some 1 := by decide +kernel
theorem hd_X1_endOf : yX1_endOf.cls = RX1 ∧ yX1_endOf.cls ≠ "java/lang/invoke/MethodHandle" ∧ yX1_endOf.cls ≠ "java/lang/invoke/VarHandle" ∧ (parseMethodDescriptor yX1_endOf.desc).map (fun d => d.parameters.length) = some 1 := by decide +kernel
theorem hd_X1_lengthOf : yX1_lengthOf.cls = RX1 ∧ yX1_lengthOf.cls ≠ "java/lang/invoke/MethodHandle" ∧ yX1_lengthOf.cls ≠ "java/lang/invoke/VarHandle" ∧ (parseMethodDescriptor yX1_lengthOf.desc).map (fun d => d.parameters.length) = some 1 := by decide +kernel
theorem hd_X1_costWith : yX1_costWith.cls = RX1 ∧ yX1_costWith.cls ≠ "java/lang/invoke/MethodHandle" ∧ yX1_costWith.cls ≠ "java/lang/invoke/VarHandle" ∧ (parseMethodDescriptor yX1_costWith.desc).map (fun d => d.parameters.length) = some 1 := by decide +kernel
theorem hd_X1_costBreaking : yX1_costBreaking.cls = RX1 ∧ yX1_costBreaking.cls ≠ "java/lang/invoke/MethodHandle" ∧ yX1_costBreaking.cls ≠ "java/lang/invoke/VarHandle" ∧ (parseMethodDescriptor yX1_costBreaking.desc).map (fun d => d.parameters.length) = some 1 := by decide +kernel
theorem hd_X1_costKeeping : yX1_costKeeping.cls = RX1 ∧ yX1_costKeeping.cls ≠ "java/lang/invoke/MethodHandle" ∧ yX1_costKeeping.cls ≠ "java/lang/invoke/VarHandle" ∧ (parseMethodDescriptor yX1_costKeeping.desc).map (fun d => d.parameters.length) = some 1 := by decide +kernel
theorem hd_X1_choices : yX1_choices.cls = RX1 ∧ yX1_choices.cls ≠ "java/lang/invoke/MethodHandle" ∧ yX1_choices.cls ≠ "java/lang/invoke/VarHandle" ∧ (parseMethodDescriptor yX1_choices.desc).map (fun d => d.parameters.length) = some 0 := by decide +kernel
set_option maxHeartbeats 4000000 in
set_option maxRecDepth 100000 in
/-- endOfLine(k) -/
theorem mX_endOfLine (l : Launch) (D : va_G) (dB dI : ClassId) (h : Nat → Nat) (S : Par) (T : Pri) (hok : pb_Ok S) (k : Int) (hk : Rng k) : WRi l yX1_endOfLine cX1_endOfLine 5 (some .int) ({ frames := 5, cells := 0, slots := 0, locals := 117 }) D (tyA dB dI) (wXu dB dI h) (S, T) [.ref (h 0), .int (iZ (k))] (fun r u => r = iZ (pb_EL S k) ∧ S = u.1 ∧ LT S u.2 (-1)) := by
  refine WRi.mk (by decide) (Nat.le_of_ble_eq_true rfl) (wXu_adr dB dI h _) ?_
  intro pr e s m below meth c ls A G hr hlocks hA hD hS hP hl
  have G : CX pr m c cX1_endOfLine 5 s _ D dB dI := G
  have hDD : ∀ S T, va_D A (wX dB dI h S T) := fun S T => hD (S, T)
  have hP : va_P D vwCl (wX dB dI h S T) s.heap := hP
  have hx := G.1.1
  have hb := G.1.2.1
  have hl : lv_has ls 5 [(0, .ref (h 0)), (1, .int (iZ (k)))] := hl
  unfold Rng at hk
  have hc10 := hok.2.2.1
  have hfw := fw_bd hok
  refine lv_aload_n hx hb dX1_endOfLine_0 rfl (lv_at hl 0 rfl) ?_
  refine wr_callv (rest := []) (As := []) (w := wXu dB dI h) (u0 := (S, T)) G.1 (mX_start l D dB dI h S T hok) (lw_V q91 q93 qs0 q21 q94) hd_X1_start ⟨⟨rfl, rfl⟩, Nat.le_of_ble_eq_true rfl, Nat.le_of_ble_eq_true rfl⟩ G.2 hP (hD _) hS hA (wX_0 ..) rfl rfl hl.1 rfl (Nat.le_of_ble_eq_true rfl) dX1_endOfLine_1 ⟨Nat.zero_le _, Nat.zero_le _⟩ (fun u1 H locs hp1 hP hS => ?_)
  obtain ⟨S1, T1⟩ := u1
  obtain ⟨eS, hT⟩ := hp1
  dsimp only at eS hT
  subst eS
  have hP : va_P D vwCl (wX dB dI h S T1) H := hP
  refine lv_aload_n hx hb dX1_endOfLine_4 rfl (lv_at hl 0 rfl) ?_
  refine zr_callV (rest := []) (As := []) G.1 (mX_fewestLines l D dB dI h S T1 (fun n hn => lt_O hok hT (p := 0) hn (by omega)) (lt_B hok hT (by omega))) (lw_V q125 q127 qs7 q21 q128) hd_X1_fewestLines ⟨⟨rfl, rfl⟩, Nat.le_of_ble_eq_true rfl, Nat.le_of_ble_eq_true rfl⟩ G.2 hP (wX_0 ..) rfl rfl hl.1 rfl (Nat.le_of_ble_eq_true rfl) dX1_endOfLine_5 ⟨Nat.zero_le _, Nat.zero_le _⟩ ?_
  refine zr_eq (y := pb_FW S) (lt_fw hT) ?_
  refine lv_istore_n (lv' := [(2, .int (iZ (pb_FW S))), (0, .ref (h 0)), (1, .int (iZ (k)))]) hx hb dX1_endOfLine_8 rfl hl (by decide) rfl (fun ls hl => ?_)
  refine lv_iload_n hx hb dX1_endOfLine_9 rfl (lv_at hl 2 rfl) ?_
  refine zr_if_lt (tgt := 18) hx hb dX1_endOfLine_10 (by decide) (by unfold Rng; omega) (fun c_10 => ?_) (fun c_10 => ?_)
  · refine zr_const hx hb dX1_endOfLine_18 ?_
    exact wr_ret hx hb hr hlocks hS (S, T1) hP ⟨by unfold pb_EL; rw [if_pos (by omega)], rfl, hT⟩ dX1_endOfLine_19
  · refine lv_iload_n hx hb dX1_endOfLine_13 rfl (lv_at hl 2 rfl) ?_
    refine lv_iload_n hx hb dX1_endOfLine_14 rfl (lv_at hl 0 rfl) ?_
    refine zr_icmp_lt (tgt := 20) hx hb dX1_endOfLine_15 (by decide) (by unfold Rng; omega) (fun c_15 => ?_) (fun c_15 => ?_)
    · obtain ⟨n, hn, hn10, hf⟩ := fw_of hok (by omega)
      obtain ⟨kN, hkN⟩ : ∃ kN : Nat, k = (kN : Int) := ⟨k.toNat, by omega⟩
      refine zr_const hx hb dX1_endOfLine_20 ?_
      refine zr_eq (y := ((pb_ED S n 0 : Nat) : Int)) (rfl) ?_
      refine lv_istore_n (lv' := [(3, .int (iZ (((pb_ED S n 0 : Nat) : Int)))), (2, .int (iZ (pb_FW S))), (0, .ref (h 0)), (1, .int (iZ (k)))]) hx hb dX1_endOfLine_21 rfl hl (by decide) rfl (fun ls hl => ?_)
      refine zr_const hx hb dX1_endOfLine_22 ?_
      refine zr_eq (y := ((0 : Nat) : Int)) (rfl) ?_
      refine lv_istore (lv' := [(4, .int (iZ (((0 : Nat) : Int)))), (3, .int (iZ (((pb_ED S n 0 : Nat) : Int)))), (2, .int (iZ (pb_FW S))), (0, .ref (h 0)), (1, .int (iZ (k)))]) hx hb dX1_endOfLine_23 hl (by decide) rfl (fun ls hl => ?_)
      refine zr_loop (pc := 25) (nL := 5) (kN + 1) (fun i => [(4, .int (iZ ((i : Nat) : Int))), (3, .int (iZ ((pb_ED S n i : Nat) : Int))), (0, .ref (h 0)), (1, .int (iZ k)), (2, .int (iZ (pb_FW S)))]) (fun _ => True) ?_ 0 ls (Nat.zero_le _) trivial (lv_sub hl [0, 1, 3, 4, 2] rfl)
      intro i ls hi _ hl ih
      have hl : lv_has ls 5 [(4, .int (iZ ((i : Nat) : Int))), (3, .int (iZ ((pb_ED S n i : Nat) : Int))), (0, .ref (h 0)), (1, .int (iZ k)), (2, .int (iZ (pb_FW S)))] := hl
      refine lv_iload hx hb dX1_endOfLine_25 (lv_at hl 0 rfl) ?_
      refine lv_iload_n hx hb dX1_endOfLine_27 rfl (lv_at hl 3 rfl) ?_
      refine zr_icmp_gt (tgt := 47) hx hb dX1_endOfLine_28 (by decide) (by unfold Rng; omega) (fun c_28 => ?_) (fun c_28 => ?_)
      · have hi1 : i = kN + 1 := by omega
        have hed := th_ED hf i (by omega)
        refine lv_iload_n hx hb dX1_endOfLine_47 rfl (lv_at hl 1 rfl) ?_
        exact wr_ret hx hb hr hlocks hS (S, T1) hP ⟨by rw [th_EL hn k, if_pos (by omega), hi1, hkN]; rfl, rfl, hT⟩ dX1_endOfLine_48
      · have hed := th_ED hf i (by omega)
        refine lv_aload_n hx hb dX1_endOfLine_31 rfl (lv_at hl 2 rfl) ?_
        refine lv_iload_n hx hb dX1_endOfLine_32 rfl (lv_at hl 4 rfl) ?_
        refine lv_iload hx hb dX1_endOfLine_33 (lv_at hl 0 rfl) ?_
        refine zr_sub hx hb dX1_endOfLine_35 ?_
        refine zr_eq (y := ((n - i : Nat) : Int)) (by omega) ?_
        refine lv_iload_n hx hb dX1_endOfLine_36 rfl (lv_at hl 1 rfl) ?_
        refine zr_callV (rest := []) (As := [.int (iZ (((n - i : Nat) : Int))), .int (iZ (((pb_ED S n i : Nat) : Int)))]) G.1 (mX_firstEnd l D dB dI h S T1 hok (by rw [hT.1]; omega) (n - i) (pb_ED S n i) (by omega) (by omega) (fun q hq => lt_O hok hT (by omega) hq) (lt_O hok hT (by omega) (by omega))) (lw_V q138 q140 qs9 q21 q141) hd_X1_firstEnd ⟨⟨rfl, rfl⟩, Nat.le_of_ble_eq_true rfl, Nat.le_of_ble_eq_true rfl⟩ G.2 hP (wX_0 ..) rfl rfl hl.1 rfl (Nat.le_of_ble_eq_true rfl) dX1_endOfLine_37 ⟨Nat.zero_le _, Nat.zero_le _⟩ ?_
        refine zr_eq (y := ((pb_ED S n (i + 1) : Nat) : Int)) (by rw [lt_fe hT (by omega) (by omega) hc10]; rfl) ?_
        refine lv_istore_n (lv' := [(3, .int (iZ (((pb_ED S n (i + 1) : Nat) : Int)))), (4, .int (iZ (((i : Nat) : Int)))), (0, .ref (h 0)), (1, .int (iZ (k))), (2, .int (iZ (pb_FW S)))]) hx hb dX1_endOfLine_40 rfl hl (by decide) rfl (fun ls hl => ?_)
        refine zr_incN (lv' := [(4, .int (iZ (((i + 1 : Nat) : Int)))), (3, .int (iZ (((pb_ED S n (i + 1) : Nat) : Int)))), (0, .ref (h 0)), (1, .int (iZ (k))), (2, .int (iZ (pb_FW S)))]) hx hb dX1_endOfLine_41 hl 1 rfl (by decide) rfl (fun ls hl => ?_)
        refine lv_goto (tgt := 25) hx hb dX1_endOfLine_44 (by decide) ?_
        exact ih ls (by omega) trivial (lv_sub hl [0, 1, 2, 3, 4] rfl)
    · refine zr_const hx hb dX1_endOfLine_18 ?_
      exact wr_ret hx hb hr hlocks hS (S, T1) hP ⟨by unfold pb_EL; rw [if_pos (by omega)], rfl, hT⟩ dX1_endOfLine_19
set_option maxHeartbeats 4000000 in
set_option maxRecDepth 100000 in
/-- cost() -/
theorem mX_cost (l : Launch) (D : va_G) (dB dI : ClassId) (h : Nat → Nat) (S : Par) (T : Pri) (hok : pb_Ok S) : WRi l yX1_cost cX1_cost 1 (some .int) ({ frames := 5, cells := 0, slots := 0, locals := 117 }) D (tyA dB dI) (wXu dB dI h) (S, T) [.ref (h 0)] (fun r u => r = iZ (xa_cost S) ∧ S = u.1) := by
  refine WRi.mk (by decide) (Nat.le_of_ble_eq_true rfl) (wXu_adr dB dI h _) ?_
  intro pr e s m below meth c ls A G hr hlocks hA hD hS hP hl
  have G : CX pr m c cX1_cost 1 s _ D dB dI := G
  have hDD : ∀ S T, va_D A (wX dB dI h S T) := fun S T => hD (S, T)
  have hP : va_P D vwCl (wX dB dI h S T) s.heap := hP
  have hx := G.1.1
  have hb := G.1.2.1
  have hl : lv_has ls 1 [(0, .ref (h 0))] := hl
  refine lv_aload_n hx hb dX1_cost_0 rfl (lv_at hl 0 rfl) ?_
  refine wr_callv (rest := []) (As := []) (w := wXu dB dI h) (u0 := (S, T)) G.1 (mX_start l D dB dI h S T hok) (lw_V q91 q93 qs0 q21 q94) hd_X1_start ⟨⟨rfl, rfl⟩, Nat.le_of_ble_eq_true rfl, Nat.le_of_ble_eq_true rfl⟩ G.2 hP (hD _) hS hA (wX_0 ..) rfl rfl hl.1 rfl (Nat.le_of_ble_eq_true rfl) dX1_cost_1 ⟨Nat.zero_le _, Nat.zero_le _⟩ (fun u1 H locs hp1 hP hS => ?_)
  obtain ⟨S1, T1⟩ := u1
  obtain ⟨eS, hT⟩ := hp1
  dsimp only at eS hT
  subst eS
  have hP : va_P D vwCl (wX dB dI h S T1) H := hP
  have hbe := th_be_far (pb_L S) S.c 0
  have hbe2 : -400 ≤ pb_be (pb_L S) S.c 0 := (th_be_bd (th_lb_of hok (-1)) 0).1
  refine lv_aload_n hx hb dX1_cost_4 rfl (lv_at hl 0 rfl) ?_
  refine gX_best G hP dX1_cost_5 ?_
  refine zr_const hx hb dX1_cost_8 ?_
  refine aX_best G hP (0) (by omega) (by omega) dX1_cost_9 ?_
  refine zr_eq (y := pb_be (pb_L S) S.c 0) ((hT.2.2 0 (by omega)).1) ?_
  refine zr_ldc (n := 1000000) hx hb G.1.2.2.2.1 (G.1.2.2.2.2 _ q99) dX1_cost_10 (by decide) ?_
  refine zr_icmp_ge (tgt := 24) hx hb dX1_cost_12 (by decide) (by unfold Rng; omega) (fun c_12 => ?_) (fun c_12 => ?_)
  · refine zr_ldc (n := -1000000) hx hb G.1.2.2.2.1 (G.1.2.2.2.2 _ q120) dX1_cost_24 (by decide) ?_
    exact wr_ret hx hb hr hlocks hS (S, T1) hP ⟨by unfold xa_cost pb_far; rw [if_neg (by omega)], rfl⟩ dX1_cost_26
  · refine lv_aload_n hx hb dX1_cost_15 rfl (lv_at hl 0 rfl) ?_
    refine gX_best G hP dX1_cost_16 ?_
    refine zr_const hx hb dX1_cost_19 ?_
    refine aX_best G hP (0) (by omega) (by omega) dX1_cost_20 ?_
    refine zr_eq (y := pb_be (pb_L S) S.c 0) ((hT.2.2 0 (by omega)).1) ?_
    refine lv_goto (tgt := 26) hx hb dX1_cost_21 (by decide) ?_
    exact wr_ret hx hb hr hlocks hS (S, T1) hP ⟨by unfold xa_cost pb_far; rw [if_pos (by omega)], rfl⟩ dX1_cost_26
set_option maxHeartbeats 4000000 in
set_option maxRecDepth 100000 in
/-- lines() -/
theorem mX_lines (l : Launch) (D : va_G) (dB dI : ClassId) (h : Nat → Nat) (S : Par) (T : Pri) (hok : pb_Ok S) : WRi l yX1_lines cX1_lines 2 (some .int) ({ frames := 5, cells := 0, slots := 0, locals := 117 }) D (tyA dB dI) (wXu dB dI h) (S, T) [.ref (h 0)] (fun r u => r = iZ (xa_lines S) ∧ S = u.1) := by
  refine WRi.mk (by decide) (Nat.le_of_ble_eq_true rfl) (wXu_adr dB dI h _) ?_
  intro pr e s m below meth c ls A G hr hlocks hA hD hS hP hl
  have G : CX pr m c cX1_lines 2 s _ D dB dI := G
  have hDD : ∀ S T, va_D A (wX dB dI h S T) := fun S T => hD (S, T)
  have hP : va_P D vwCl (wX dB dI h S T) s.heap := hP
  have hx := G.1.1
  have hb := G.1.2.1
  have hl : lv_has ls 2 [(0, .ref (h 0))] := hl
  have hfw := fw_bd hok
  refine lv_aload_n hx hb dX1_lines_0 rfl (lv_at hl 0 rfl) ?_
  refine wr_callv (rest := []) (As := []) (w := wXu dB dI h) (u0 := (S, T)) G.1 (mX_start l D dB dI h S T hok) (lw_V q91 q93 qs0 q21 q94) hd_X1_start ⟨⟨rfl, rfl⟩, Nat.le_of_ble_eq_true rfl, Nat.le_of_ble_eq_true rfl⟩ G.2 hP (hD _) hS hA (wX_0 ..) rfl rfl hl.1 rfl (Nat.le_of_ble_eq_true rfl) dX1_lines_1 ⟨Nat.zero_le _, Nat.zero_le _⟩ (fun u1 H locs hp1 hP hS => ?_)
  obtain ⟨S1, T1⟩ := u1
  obtain ⟨eS, hT⟩ := hp1
  dsimp only at eS hT
  subst eS
  have hP : va_P D vwCl (wX dB dI h S T1) H := hP
  refine lv_aload_n hx hb dX1_lines_4 rfl (lv_at hl 0 rfl) ?_
  refine zr_callV (rest := []) (As := []) G.1 (mX_fewestLines l D dB dI h S T1 (fun n hn => lt_O hok hT (p := 0) hn (by omega)) (lt_B hok hT (by omega))) (lw_V q125 q127 qs7 q21 q128) hd_X1_fewestLines ⟨⟨rfl, rfl⟩, Nat.le_of_ble_eq_true rfl, Nat.le_of_ble_eq_true rfl⟩ G.2 hP (wX_0 ..) rfl rfl hl.1 rfl (Nat.le_of_ble_eq_true rfl) dX1_lines_5 ⟨Nat.zero_le _, Nat.zero_le _⟩ ?_
  refine zr_eq (y := pb_FW S) (lt_fw hT) ?_
  refine lv_istore_n (lv' := [(1, .int (iZ (pb_FW S))), (0, .ref (h 0))]) hx hb dX1_lines_8 rfl hl (by decide) rfl (fun ls hl => ?_)
  refine lv_iload_n hx hb dX1_lines_9 rfl (lv_at hl 0 rfl) ?_
  refine zr_if_ge (tgt := 17) hx hb dX1_lines_10 (by decide) (by unfold Rng; omega) (fun c_10 => ?_) (fun c_10 => ?_)
  · refine lv_iload_n hx hb dX1_lines_17 rfl (lv_at hl 0 rfl) ?_
    exact wr_ret hx hb hr hlocks hS (S, T1) hP ⟨by unfold xa_lines; rw [if_neg (by omega)], rfl⟩ dX1_lines_18
  · refine zr_const hx hb dX1_lines_13 ?_
    refine lv_goto (tgt := 18) hx hb dX1_lines_14 (by decide) ?_
    exact wr_ret hx hb hr hlocks hS (S, T1) hP ⟨by unfold xa_lines; rw [if_pos (by omega)], rfl⟩ dX1_lines_18
set_option maxHeartbeats 4000000 in
set_option maxRecDepth 100000 in
/-- lineOf(i) -/
theorem mX_lineOf (l : Launch) (D : va_G) (dB dI : ClassId) (h : Nat → Nat) (S : Par) (T : Pri) (hok : pb_Ok S) (i : Int) (hi : Rng i) : WRi l yX1_lineOf cX1_lineOf 5 (some .int) ({ frames := 6, cells := 0, slots := 0, locals := 141 }) D (tyA dB dI) (wXu dB dI h) (S, T) [.ref (h 0), .int (iZ (i))] (fun r u => r = iZ (xa_lineOf S i) ∧ S = u.1) := by
  refine WRi.mk (by decide) (Nat.le_of_ble_eq_true rfl) (wXu_adr dB dI h _) ?_
  intro pr e s m below meth c ls A G hr hlocks hA hD hS hP hl
  have G : CX pr m c cX1_lineOf 5 s _ D dB dI := G
  have hDD : ∀ S T, va_D A (wX dB dI h S T) := fun S T => hD (S, T)
  have hP : va_P D vwCl (wX dB dI h S T) s.heap := hP
  have hx := G.1.1
  have hb := G.1.2.1
  have hl : lv_has ls 5 [(0, .ref (h 0)), (1, .int (iZ (i)))] := hl
  unfold Rng at hi
  have hc10 := hok.2.2.1
  have hxl := xl_bd hok
  refine lv_iload_n hx hb dX1_lineOf_0 rfl (lv_at hl 1 rfl) ?_
  refine zr_if_lt (tgt := 12) hx hb dX1_lineOf_1 (by decide) (by unfold Rng; omega) (fun c_1 => ?_) (fun c_1 => ?_)
  · refine zr_const hx hb dX1_lineOf_12 ?_
    exact wr_ret hx hb hr hlocks hS (S, T) hP ⟨by unfold xa_lineOf; rw [if_pos (by omega)], rfl⟩ dX1_lineOf_13
  · refine lv_iload_n hx hb dX1_lineOf_4 rfl (lv_at hl 1 rfl) ?_
    refine lv_aload_n hx hb dX1_lineOf_5 rfl (lv_at hl 0 rfl) ?_
    refine gX_count G hP dX1_lineOf_6 ?_
    refine zr_icmp_lt (tgt := 14) hx hb dX1_lineOf_9 (by decide) (by unfold Rng; omega) (fun c_9 => ?_) (fun c_9 => ?_)
    · refine lv_aload_n hx hb dX1_lineOf_14 rfl (lv_at hl 0 rfl) ?_
      refine wr_calli (rest := []) (As := []) (w := wXu dB dI h) (u0 := (S, T)) G.1 (mX_lines l D dB dI h S T hok) (lw_V q133 q122 q123 q21 q124) hd_X1_lines ⟨⟨rfl, rfl⟩, Nat.le_of_ble_eq_true rfl, Nat.le_of_ble_eq_true rfl⟩ G.2 hP (hD _) hS hA (wX_0 ..) rfl rfl hl.1 rfl (Nat.le_of_ble_eq_true rfl) dX1_lineOf_15 ⟨Nat.zero_le _, Nat.zero_le _⟩ (fun r1 u1 H locs hp1 hP _ hS => ?_)
      obtain ⟨S1, T1⟩ := u1
      obtain ⟨er, eS⟩ := hp1
      dsimp only at eS
      subst eS
      subst er
      have hP : va_P D vwCl (wX dB dI h S T1) H := hP
      refine lv_istore_n (lv' := [(2, .int (iZ (xa_lines S))), (0, .ref (h 0)), (1, .int (iZ (i)))]) hx hb dX1_lineOf_18 rfl hl (by decide) rfl (fun ls hl => ?_)
      refine zr_const hx hb dX1_lineOf_19 ?_
      refine zr_eq (y := ((0 : Nat) : Int)) (rfl) ?_
      refine lv_istore_n (lv' := [(3, .int (iZ (((0 : Nat) : Int)))), (2, .int (iZ (xa_lines S))), (0, .ref (h 0)), (1, .int (iZ (i)))]) hx hb dX1_lineOf_20 rfl hl (by decide) rfl (fun ls hl => ?_)
      have hxi : xa_lineOf S i = xa_lof S i (xa_lines S).toNat 0 := by unfold xa_lineOf; rw [if_neg (by omega)]
      refine zr_loopH (pc := 21) (nL := 5) (α := Pri) (xa_lines S).toNat (fun k _ => [(3, .int (iZ ((k : Nat) : Int))), (2, .int (iZ (xa_lines S))), (0, .ref (h 0)), (1, .int (iZ i))]) (fun k T1 H locs => va_P D vwCl (wX dB dI h S T1) H ∧ va_S A s.heap H locs ∧ xa_lineOf S i = xa_lof S i ((xa_lines S).toNat - k) k) ?_ 0 T1 H locs ls (Nat.zero_le _) ⟨hP, hS, hxi⟩ (lv_sub hl [0, 1, 2, 3] rfl)
      clear hP hS
      intro k T2 H locs ls hk hC hl ih
      obtain ⟨hP, hS, hF⟩ := hC
      have hel := el_bd hok ((k : Nat) : Int)
      have hl : lv_has ls 5 [(3, .int (iZ ((k : Nat) : Int))), (2, .int (iZ (xa_lines S))), (0, .ref (h 0)), (1, .int (iZ i))] := hl
      refine lv_iload_n hx hb dX1_lineOf_21 rfl (lv_at hl 0 rfl) ?_
      refine lv_iload_n hx hb dX1_lineOf_22 rfl (lv_at hl 1 rfl) ?_
      refine zr_icmp_ge (tgt := 47) hx hb dX1_lineOf_23 (by decide) (by unfold Rng; omega) (fun c_23 => ?_) (fun c_23 => ?_)
      · refine zr_const hx hb dX1_lineOf_47 ?_
        exact wr_ret hx hb hr hlocks hS (S, T2) hP ⟨by rw [hF, show (xa_lines S).toNat - k = 0 by omega]; rfl, rfl⟩ dX1_lineOf_48
      · refine lv_aload_n hx hb dX1_lineOf_26 rfl (lv_at hl 2 rfl) ?_
        refine lv_iload_n hx hb dX1_lineOf_27 rfl (lv_at hl 0 rfl) ?_
        refine wr_calli (rest := []) (As := [.int (iZ (((k : Nat) : Int)))]) (w := wXu dB dI h) (u0 := (S, T2)) G.1 (mX_endOfLine l D dB dI h S T2 hok ((k : Nat) : Int) (by unfold Rng; omega)) (lw_V q134 q136 qs8 q21 q137) hd_X1_endOfLine ⟨⟨rfl, rfl⟩, Nat.le_of_ble_eq_true rfl, Nat.le_of_ble_eq_true rfl⟩ G.2 hP (hD _) hS hA (wX_0 ..) rfl rfl hl.1 rfl (Nat.le_of_ble_eq_true rfl) dX1_lineOf_28 ⟨Nat.zero_le _, Nat.zero_le _⟩ (fun r3 u3 H locs hp3 hP _ hS => ?_)
        obtain ⟨S3, T3⟩ := u3
        obtain ⟨er, eS, hT⟩ := hp3
        dsimp only at eS hT
        subst eS
        subst er
        have hP : va_P D vwCl (wX dB dI h S T3) H := hP
        refine lv_istore (lv' := [(4, .int (iZ (pb_EL S ((k : Nat) : Int)))), (3, .int (iZ (((k : Nat) : Int)))), (2, .int (iZ (xa_lines S))), (0, .ref (h 0)), (1, .int (iZ (i)))]) hx hb dX1_lineOf_31 hl (by decide) rfl (fun ls hl => ?_)
        refine lv_iload_n hx hb dX1_lineOf_33 rfl (lv_at hl 4 rfl) ?_
        refine lv_iload hx hb dX1_lineOf_34 (lv_at hl 0 rfl) ?_
        refine zr_icmp_ge (tgt := 41) hx hb dX1_lineOf_36 (by decide) (by unfold Rng; omega) (fun c_36 => ?_) (fun c_36 => ?_)
        · refine zr_incN (lv' := [(3, .int (iZ (((k + 1 : Nat) : Int)))), (4, .int (iZ (pb_EL S ((k : Nat) : Int)))), (2, .int (iZ (xa_lines S))), (0, .ref (h 0)), (1, .int (iZ (i)))]) hx hb dX1_lineOf_41 hl 1 rfl (by decide) rfl (fun ls hl => ?_)
          refine lv_goto (tgt := 21) hx hb dX1_lineOf_44 (by decide) ?_
          exact ih T3 H locs ls (by omega) ⟨hP, hS, by rw [hF, show (xa_lines S).toNat - k = ((xa_lines S).toNat - (k + 1)) + 1 by omega]; simp only [xa_lof]; rw [if_neg (by omega)]⟩ (lv_sub hl [0, 2, 3, 4] rfl)
        · refine lv_iload_n hx hb dX1_lineOf_39 rfl (lv_at hl 1 rfl) ?_
          exact wr_ret hx hb hr hlocks hS (S, T3) hP ⟨by rw [hF, show (xa_lines S).toNat - k = ((xa_lines S).toNat - (k + 1)) + 1 by omega]; simp only [xa_lof]; rw [if_pos (by omega)], rfl⟩ dX1_lineOf_40
    · refine zr_const hx hb dX1_lineOf_12 ?_
      exact wr_ret hx hb hr hlocks hS (S, T) hP ⟨by unfold xa_lineOf; rw [if_pos (by omega)], rfl⟩ dX1_lineOf_13
set_option maxHeartbeats 4000000 in
set_option maxRecDepth 100000 in
/-- endOf(k) -/
theorem mX_endOf (l : Launch) (D : va_G) (dB dI : ClassId) (h : Nat → Nat) (S : Par) (T : Pri) (hok : pb_Ok S) (k : Int) (hk : Rng k) : WRi l yX1_endOf cX1_endOf 3 (some .int) ({ frames := 6, cells := 0, slots := 0, locals := 141 }) D (tyA dB dI) (wXu dB dI h) (S, T) [.ref (h 0), .int (iZ (k))] (fun r u => r = iZ (xa_endOf S k) ∧ S = u.1) := by
  refine WRi.mk (by decide) (Nat.le_of_ble_eq_true rfl) (wXu_adr dB dI h _) ?_
  intro pr e s m below meth c ls A G hr hlocks hA hD hS hP hl
  have G : CX pr m c cX1_endOf 3 s _ D dB dI := G
  have hDD : ∀ S T, va_D A (wX dB dI h S T) := fun S T => hD (S, T)
  have hP : va_P D vwCl (wX dB dI h S T) s.heap := hP
  have hx := G.1.1
  have hb := G.1.2.1
  have hl : lv_has ls 3 [(0, .ref (h 0)), (1, .int (iZ (k)))] := hl
  have hel := el_bd hok k
  refine lv_aload_n hx hb dX1_endOf_0 rfl (lv_at hl 0 rfl) ?_
  refine lv_iload_n hx hb dX1_endOf_1 rfl (lv_at hl 1 rfl) ?_
  refine wr_calli (rest := []) (As := [.int (iZ (k))]) (w := wXu dB dI h) (u0 := (S, T)) G.1 (mX_endOfLine l D dB dI h S T hok k hk) (lw_V q134 q136 qs8 q21 q137) hd_X1_endOfLine ⟨⟨rfl, rfl⟩, Nat.le_of_ble_eq_true rfl, Nat.le_of_ble_eq_true rfl⟩ G.2 hP (hD _) hS hA (wX_0 ..) rfl rfl hl.1 rfl (Nat.le_of_ble_eq_true rfl) dX1_endOf_2 ⟨Nat.zero_le _, Nat.zero_le _⟩ (fun r1 u1 H locs hp1 hP _ hS => ?_)
  obtain ⟨S1, T1⟩ := u1
  obtain ⟨er, eS, hT⟩ := hp1
  dsimp only at eS hT
  subst eS
  subst er
  have hP : va_P D vwCl (wX dB dI h S T1) H := hP
  refine lv_istore_n (lv' := [(2, .int (iZ (pb_EL S k))), (0, .ref (h 0)), (1, .int (iZ (k)))]) hx hb dX1_endOf_5 rfl hl (by decide) rfl (fun ls hl => ?_)
  refine lv_iload_n hx hb dX1_endOf_6 rfl (lv_at hl 0 rfl) ?_
  refine zr_if_ge (tgt := 14) hx hb dX1_endOf_7 (by decide) (by unfold Rng; omega) (fun c_7 => ?_) (fun c_7 => ?_)
  · refine lv_iload_n hx hb dX1_endOf_14 rfl (lv_at hl 0 rfl) ?_
    refine zr_const hx hb dX1_endOf_15 ?_
    refine zr_sub hx hb dX1_endOf_16 ?_
    exact wr_ret hx hb hr hlocks hS (S, T1) hP ⟨by unfold xa_endOf; rw [if_neg (by omega)], rfl⟩ dX1_endOf_17
  · refine zr_const hx hb dX1_endOf_10 ?_
    refine lv_goto (tgt := 17) hx hb dX1_endOf_11 (by decide) ?_
    exact wr_ret hx hb hr hlocks hS (S, T1) hP ⟨by unfold xa_endOf; rw [if_pos (by omega)], rfl⟩ dX1_endOf_17
set_option maxHeartbeats 4000000 in
set_option maxRecDepth 100000 in
/-- lengthOf(k) -/
theorem mX_lengthOf (l : Launch) (D : va_G) (dB dI : ClassId) (h : Nat → Nat) (S : Par) (T : Pri) (hok : pb_Ok S) (k : Int) (hk : Rng k) : WRi l yX1_lengthOf cX1_lengthOf 4 (some .int) ({ frames := 6, cells := 0, slots := 0, locals := 141 }) D (tyA dB dI) (wXu dB dI h) (S, T) [.ref (h 0), .int (iZ (k))] (fun r u => r = iZ (xa_lengthOf S k) ∧ S = u.1) := by
  refine WRi.mk (by decide) (Nat.le_of_ble_eq_true rfl) (wXu_adr dB dI h _) ?_
  intro pr e s m below meth c ls A G hr hlocks hA hD hS hP hl
  have G : CX pr m c cX1_lengthOf 4 s _ D dB dI := G
  have hDD : ∀ S T, va_D A (wX dB dI h S T) := fun S T => hD (S, T)
  have hP : va_P D vwCl (wX dB dI h S T) s.heap := hP
  have hx := G.1.1
  have hb := G.1.2.1
  have hl : lv_has ls 4 [(0, .ref (h 0)), (1, .int (iZ (k)))] := hl
  have hel := el_bd hok k
  have hk2 := hk
  unfold Rng at hk2
  refine lv_aload_n hx hb dX1_lengthOf_0 rfl (lv_at hl 0 rfl) ?_
  refine lv_iload_n hx hb dX1_lengthOf_1 rfl (lv_at hl 1 rfl) ?_
  refine wr_calli (rest := []) (As := [.int (iZ (k))]) (w := wXu dB dI h) (u0 := (S, T)) G.1 (mX_endOfLine l D dB dI h S T hok k hk) (lw_V q134 q136 qs8 q21 q137) hd_X1_endOfLine ⟨⟨rfl, rfl⟩, Nat.le_of_ble_eq_true rfl, Nat.le_of_ble_eq_true rfl⟩ G.2 hP (hD _) hS hA (wX_0 ..) rfl rfl hl.1 rfl (Nat.le_of_ble_eq_true rfl) dX1_lengthOf_2 ⟨Nat.zero_le _, Nat.zero_le _⟩ (fun r1 u1 H locs hp1 hP _ hS => ?_)
  obtain ⟨S1, T1⟩ := u1
  obtain ⟨er, eS, hT⟩ := hp1
  dsimp only at eS hT
  subst eS
  subst er
  have hP : va_P D vwCl (wX dB dI h S T1) H := hP
  refine lv_istore_n (lv' := [(2, .int (iZ (pb_EL S k))), (0, .ref (h 0)), (1, .int (iZ (k)))]) hx hb dX1_lengthOf_5 rfl hl (by decide) rfl (fun ls hl => ?_)
  refine lv_iload_n hx hb dX1_lengthOf_6 rfl (lv_at hl 0 rfl) ?_
  refine zr_if_ge (tgt := 12) hx hb dX1_lengthOf_7 (by decide) (by unfold Rng; omega) (fun c_7 => ?_) (fun c_7 => ?_)
  · refine lv_iload_n hx hb dX1_lengthOf_12 rfl (lv_at hl 2 rfl) ?_
    refine zr_if_le (tgt := 26) hx hb dX1_lengthOf_13 (by decide) (by unfold Rng; omega) (fun c_13 => ?_) (fun c_13 => ?_)
    · refine zr_const hx hb dX1_lengthOf_26 ?_
      refine lv_istore_n (lv' := [(3, .int (iZ (0))), (2, .int (iZ (pb_EL S k))), (0, .ref (h 0)), (1, .int (iZ (k)))]) hx hb dX1_lengthOf_27 rfl hl (by decide) rfl (fun ls hl => ?_)
      refine lv_aload_n hx hb dX1_lengthOf_28 rfl (lv_at hl 2 rfl) ?_
      refine lv_iload_n hx hb dX1_lengthOf_29 rfl (lv_at hl 0 rfl) ?_
      refine zr_eq (y := (((0 : Int).toNat : Nat) : Int)) (rfl) ?_
      refine lv_iload_n hx hb dX1_lengthOf_30 rfl (lv_at hl 1 rfl) ?_
      refine zr_eq (y := (((pb_EL S k).toNat : Nat) : Int)) (by omega) ?_
      refine zr_callV (rest := []) (As := [.int (iZ ((((0 : Int).toNat : Nat) : Int))), .int (iZ ((((pb_EL S k).toNat : Nat) : Int)))]) G.1 (mX_length l D dB dI h S T1 ((0 : Int).toNat) ((pb_EL S k).toNat) (by omega) (by omega)) (lw_V q108 q110 qs4 q21 q111) hd_X1_length ⟨⟨rfl, rfl⟩, Nat.le_of_ble_eq_true rfl, Nat.le_of_ble_eq_true rfl⟩ G.2 hP (wX_0 ..) rfl rfl hl.1 rfl (Nat.le_of_ble_eq_true rfl) dX1_lengthOf_31 ⟨Nat.zero_le _, Nat.zero_le _⟩ ?_
      exact wr_ret hx hb hr hlocks hS (S, T1) hP ⟨by unfold xa_lengthOf; rw [if_neg (by omega), if_neg (by omega)], rfl⟩ dX1_lengthOf_34
    · have hm := el_mono hok (by omega) c_13
      refine lv_aload_n hx hb dX1_lengthOf_16 rfl (lv_at hl 1 rfl) ?_
      refine lv_iload_n hx hb dX1_lengthOf_17 rfl (lv_at hl 2 rfl) ?_
      refine zr_const hx hb dX1_lengthOf_18 ?_
      refine zr_sub hx hb dX1_lengthOf_19 ?_
      refine wr_calli (rest := []) (As := [.int (iZ ((k) - (1)))]) (w := wXu dB dI h) (u0 := (S, T1)) G.1 (mX_endOfLine l D dB dI h S T1 hok (k - 1) (by unfold Rng; omega)) (lw_V q134 q136 qs8 q21 q137) hd_X1_endOfLine ⟨⟨rfl, rfl⟩, Nat.le_of_ble_eq_true rfl, Nat.le_of_ble_eq_true rfl⟩ G.2 hP (hD _) hS hA (wX_0 ..) rfl rfl hl.1 rfl (Nat.le_of_ble_eq_true rfl) dX1_lengthOf_20 ⟨Nat.zero_le _, Nat.zero_le _⟩ (fun r2 u2 H locs hp2 hP _ hS => ?_)
      obtain ⟨S2, T2⟩ := u2
      obtain ⟨er, eS, hT⟩ := hp2
      dsimp only at eS hT
      subst eS
      subst er
      have hP : va_P D vwCl (wX dB dI h S T2) H := hP
      refine lv_goto (tgt := 27) hx hb dX1_lengthOf_23 (by decide) ?_
      refine lv_istore_n (lv' := [(3, .int (iZ (pb_EL S (k - 1)))), (2, .int (iZ (pb_EL S k))), (0, .ref (h 0)), (1, .int (iZ (k)))]) hx hb dX1_lengthOf_27 rfl hl (by decide) rfl (fun ls hl => ?_)
      refine lv_aload_n hx hb dX1_lengthOf_28 rfl (lv_at hl 2 rfl) ?_
      refine lv_iload_n hx hb dX1_lengthOf_29 rfl (lv_at hl 0 rfl) ?_
      refine zr_eq (y := (((pb_EL S (k - 1)).toNat : Nat) : Int)) (by omega) ?_
      refine lv_iload_n hx hb dX1_lengthOf_30 rfl (lv_at hl 1 rfl) ?_
      refine zr_eq (y := (((pb_EL S k).toNat : Nat) : Int)) (by omega) ?_
      refine zr_callV (rest := []) (As := [.int (iZ ((((pb_EL S (k - 1)).toNat : Nat) : Int))), .int (iZ ((((pb_EL S k).toNat : Nat) : Int)))]) G.1 (mX_length l D dB dI h S T2 ((pb_EL S (k - 1)).toNat) ((pb_EL S k).toNat) (by omega) (by omega)) (lw_V q108 q110 qs4 q21 q111) hd_X1_length ⟨⟨rfl, rfl⟩, Nat.le_of_ble_eq_true rfl, Nat.le_of_ble_eq_true rfl⟩ G.2 hP (wX_0 ..) rfl rfl hl.1 rfl (Nat.le_of_ble_eq_true rfl) dX1_lengthOf_31 ⟨Nat.zero_le _, Nat.zero_le _⟩ ?_
      exact wr_ret hx hb hr hlocks hS (S, T2) hP ⟨by unfold xa_lengthOf; rw [if_neg (by omega), if_pos (by omega)], rfl⟩ dX1_lengthOf_34
  · refine zr_const hx hb dX1_lengthOf_10 ?_
    exact wr_ret hx hb hr hlocks hS (S, T1) hP ⟨by unfold xa_lengthOf; rw [if_pos (by omega)], rfl⟩ dX1_lengthOf_11
set_option maxHeartbeats 4000000 in
set_option maxRecDepth 100000 in
/-- costWith(n) -/
theorem mX_costWith (l : Launch) (D : va_G) (dB dI : ClassId) (h : Nat → Nat) (S : Par) (T : Pri) (hok : pb_Ok S) (n : Int) (hn : Rng n) : WRi l yX1_costWith cX1_costWith 2 (some .int) ({ frames := 5, cells := 0, slots := 0, locals := 117 }) D (tyA dB dI) (wXu dB dI h) (S, T) [.ref (h 0), .int (iZ (n))] (fun r u => r = iZ (xa_costWith S n) ∧ S = u.1) := by
  refine WRi.mk (by decide) (Nat.le_of_ble_eq_true rfl) (wXu_adr dB dI h _) ?_
  intro pr e s m below meth c ls A G hr hlocks hA hD hS hP hl
  have G : CX pr m c cX1_costWith 2 s _ D dB dI := G
  have hDD : ∀ S T, va_D A (wX dB dI h S T) := fun S T => hD (S, T)
  have hP : va_P D vwCl (wX dB dI h S T) s.heap := hP
  have hx := G.1.1
  have hb := G.1.2.1
  have hl : lv_has ls 2 [(0, .ref (h 0)), (1, .int (iZ (n)))] := hl
  unfold Rng at hn
  refine lv_iload_n hx hb dX1_costWith_0 rfl (lv_at hl 1 rfl) ?_
  refine zr_if_lt (tgt := 10) hx hb dX1_costWith_1 (by decide) (by unfold Rng; omega) (fun c_1 => ?_) (fun c_1 => ?_)
  · refine zr_ldc (n := -1000000) hx hb G.1.2.2.2.1 (G.1.2.2.2.2 _ q120) dX1_costWith_10 (by decide) ?_
    exact wr_ret hx hb hr hlocks hS (S, T) hP ⟨by unfold xa_costWith; rw [if_pos (by omega)], rfl⟩ dX1_costWith_12
  · refine lv_iload_n hx hb dX1_costWith_4 rfl (lv_at hl 1 rfl) ?_
    refine zr_bipush hx hb dX1_costWith_5 (by decide) ?_
    refine zr_icmp_le (tgt := 13) hx hb dX1_costWith_7 (by decide) (by unfold Rng; omega) (fun c_7 => ?_) (fun c_7 => ?_)
    · refine lv_aload_n hx hb dX1_costWith_13 rfl (lv_at hl 0 rfl) ?_
      refine wr_callv (rest := []) (As := []) (w := wXu dB dI h) (u0 := (S, T)) G.1 (mX_start l D dB dI h S T hok) (lw_V q91 q93 qs0 q21 q94) hd_X1_start ⟨⟨rfl, rfl⟩, Nat.le_of_ble_eq_true rfl, Nat.le_of_ble_eq_true rfl⟩ G.2 hP (hD _) hS hA (wX_0 ..) rfl rfl hl.1 rfl (Nat.le_of_ble_eq_true rfl) dX1_costWith_14 ⟨Nat.zero_le _, Nat.zero_le _⟩ (fun u1 H locs hp1 hP hS => ?_)
      obtain ⟨S1, T1⟩ := u1
      obtain ⟨eS, hT⟩ := hp1
      dsimp only at eS hT
      subst eS
      have hP : va_P D vwCl (wX dB dI h S T1) H := hP
      have hon : T1.O (n.toNat * 11) = pb_on (pb_L S) S.c n.toNat 0 := hT.2.1 n.toNat 0 (by omega) (by omega)
      have hb := th_on_far (pb_L S) S.c n.toNat 0
      have hb2 : -400 ≤ pb_on (pb_L S) S.c n.toNat 0 := th_on_low (th_lb_of hok (-1)) (by omega) 0
      have hb : c.code = cX1_costWith := G.1.2.1
      have hb3 := th_on_far (pb_L S) S.c n.toNat 0
      refine lv_aload_n hx hb dX1_costWith_17 rfl (lv_at hl 0 rfl) ?_
      refine gX_onward G hP dX1_costWith_18 ?_
      refine lv_iload_n hx hb dX1_costWith_21 rfl (lv_at hl 1 rfl) ?_
      refine zr_bipush hx hb dX1_costWith_22 (by decide) ?_
      refine zr_mul hx hb dX1_costWith_24 ?_
      refine aX_onward G hP (n.toNat * 11) (by omega) (by omega) dX1_costWith_25 ?_
      refine zr_eq (y := pb_on (pb_L S) S.c n.toNat 0) (hon) ?_
      refine zr_ldc (n := 1000000) hx hb G.1.2.2.2.1 (G.1.2.2.2.2 _ q99) dX1_costWith_26 (by decide) ?_
      refine zr_icmp_ge (tgt := 43) hx hb dX1_costWith_28 (by decide) (by unfold Rng; omega) (fun c_28 => ?_) (fun c_28 => ?_)
      · refine zr_ldc (n := -1000000) hx hb G.1.2.2.2.1 (G.1.2.2.2.2 _ q120) dX1_costWith_43 (by decide) ?_
        exact wr_ret hx hb hr hlocks hS (S, T1) hP ⟨by unfold xa_costWith pb_far; rw [if_neg (by omega), if_neg (by omega)], rfl⟩ dX1_costWith_45
      · refine lv_aload_n hx hb dX1_costWith_31 rfl (lv_at hl 0 rfl) ?_
        refine gX_onward G hP dX1_costWith_32 ?_
        refine lv_iload_n hx hb dX1_costWith_35 rfl (lv_at hl 1 rfl) ?_
        refine zr_bipush hx hb dX1_costWith_36 (by decide) ?_
        refine zr_mul hx hb dX1_costWith_38 ?_
        refine aX_onward G hP (n.toNat * 11) (by omega) (by omega) dX1_costWith_39 ?_
        refine zr_eq (y := pb_on (pb_L S) S.c n.toNat 0) (hon) ?_
        refine lv_goto (tgt := 45) hx hb dX1_costWith_40 (by decide) ?_
        exact wr_ret hx hb hr hlocks hS (S, T1) hP ⟨by unfold xa_costWith pb_far; rw [if_neg (by omega), if_pos (by omega)], rfl⟩ dX1_costWith_45
    · refine zr_ldc (n := -1000000) hx hb G.1.2.2.2.1 (G.1.2.2.2.2 _ q120) dX1_costWith_10 (by decide) ?_
      exact wr_ret hx hb hr hlocks hS (S, T) hP ⟨by unfold xa_costWith; rw [if_pos (by omega)], rfl⟩ dX1_costWith_12
def UT (S : Par) (T T' : Pri) (q : Nat) : Prop := T'.b = T.b ∧ T'.O = T.O ∧ T'.B = T.B ∧ T'.Y = T.Y ∧ ∀ j, j < q → T'.U j = pb_up (pb_lc S T.b) j
theorem th_ui_low {L : Nat → Nat → Int} {U : Nat → Int} {q k : Nat} (h : ∀ p, p < k → -40 ≤ L p q ∧ -400 ≤ U p) : -440 ≤ pb_ui L U q k := by
  by_cases hf : pb_ui L U q k < 1000000
  · obtain ⟨p, a, _, _, e⟩ := th_ui_at hf
    have := h p a
    omega
  · omega
set_option maxHeartbeats 4000000 in
set_option maxRecDepth 100000 in
/-- findUpTo() -/
theorem mX_findUpTo (l : Launch) (D : va_G) (dB dI : ClassId) (h : Nat → Nat) (S : Par) (T : Pri) (hok : pb_Ok S) (hb0 : -1 ≤ T.b ∧ T.b ≤ 10) : WRv l yX1_findUpTo cX1_findUpTo 4 ({ frames := 2, cells := 0, slots := 0, locals := 49 }) D (tyA dB dI) (wXu dB dI h) (S, T) [.ref (h 0)] (fun u => S = u.1 ∧ ∃ q, S.c ≤ q ∧ UT S T u.2 q) := by
  refine WRv.mk (by decide) (Nat.le_of_ble_eq_true rfl) (wXu_adr dB dI h _) ?_
  intro pr e s m below meth c ls A G hr hlocks hA hD hS hP hl
  have G : CX pr m c cX1_findUpTo 4 s _ D dB dI := G
  have hDD : ∀ S T, va_D A (wX dB dI h S T) := fun S T => hD (S, T)
  have hP : va_P D vwCl (wX dB dI h S T) s.heap := hP
  have hx := G.1.1
  have hb := G.1.2.1
  have hl : lv_has ls 4 [(0, .ref (h 0))] := hl
  have hc10 := hok.2.2.1
  have hL := th_lb_of hok T.b
  refine lv_aload_n hx hb dX1_findUpTo_0 rfl (lv_at hl 0 rfl) ?_
  refine gX_upTo G hP dX1_findUpTo_1 ?_
  refine zr_const hx hb dX1_findUpTo_4 ?_
  refine zr_const hx hb dX1_findUpTo_5 ?_
  refine sX_upTo G hDD hS hP (0) (by omega) (by omega) dX1_findUpTo_6 (fun H locs hP hS => ?_)
  generalize e_Ta : Pri.of T.b T.O (updZ T.U (0) (0)) T.B T.Y = Ta at hP
  have f_Ta : Ta.b = T.b ∧ Ta.O = T.O ∧ Ta.U = updZ T.U (0) (0) ∧ Ta.B = T.B ∧ Ta.Y = T.Y := by subst e_Ta; exact ⟨rfl, rfl, rfl, rfl, rfl⟩
  refine zr_const hx hb dX1_findUpTo_7 ?_
  refine zr_eq (y := ((1 : Nat) : Int)) (rfl) ?_
  refine lv_istore_n (lv' := [(1, .int (iZ (((1 : Nat) : Int)))), (0, .ref (h 0))]) hx hb dX1_findUpTo_8 rfl hl (by decide) rfl (fun ls hl => ?_)
  refine zr_loopH (pc := 9) (nL := 4) (α := Pri) (S.c + 1) (fun q _ => [(1, .int (iZ ((q : Nat) : Int))), (0, .ref (h 0))]) (fun q T1 H locs => va_P D vwCl (wX dB dI h S T1) H ∧ va_S A s.heap H locs ∧ UT S T T1 q ∧ 1 ≤ q) ?_ 1 Ta H locs ls (by omega) ⟨hP, hS, ⟨f_Ta.1, f_Ta.2.1, f_Ta.2.2.2.1, f_Ta.2.2.2.2, fun j hj => by rw [f_Ta.2.2.1, show j = 0 by omega, updZ_s, th_up_0]⟩, Nat.le_refl 1⟩ (lv_sub hl [0, 1] rfl)
  clear hP hS
  intro q T1 H locs ls hq hC hl ih
  obtain ⟨hP, hS, hF, hq1⟩ := hC
  have hl : lv_has ls 4 [(1, .int (iZ ((q : Nat) : Int))), (0, .ref (h 0))] := hl
  refine lv_iload_n hx hb dX1_findUpTo_9 rfl (lv_at hl 0 rfl) ?_
  refine lv_aload_n hx hb dX1_findUpTo_10 rfl (lv_at hl 1 rfl) ?_
  refine gX_count G hP dX1_findUpTo_11 ?_
  refine zr_icmp_ge (tgt := 99) hx hb dX1_findUpTo_14 (by decide) (by unfold Rng; omega) (fun c_14 => ?_) (fun c_14 => ?_)
  · exact wr_vret hx hb hr hlocks hS (S, T1) hP ⟨rfl, q, by omega, hF⟩ dX1_findUpTo_99
  · refine lv_aload_n hx hb dX1_findUpTo_17 rfl (lv_at hl 1 rfl) ?_
    refine gX_upTo G hP dX1_findUpTo_18 ?_
    refine lv_iload_n hx hb dX1_findUpTo_21 rfl (lv_at hl 0 rfl) ?_
    refine zr_ldc (n := 1000000) hx hb G.1.2.2.2.1 (G.1.2.2.2.2 _ q99) dX1_findUpTo_22 (by decide) ?_
    refine sX_upTo G hDD hS hP (q) (by omega) (by omega) dX1_findUpTo_24 (fun H locs hP hS => ?_)
    generalize e_Tb : Pri.of T1.b T1.O (updZ T1.U (q) (1000000)) T1.B T1.Y = Tb at hP
    have f_Tb : Tb.b = T1.b ∧ Tb.O = T1.O ∧ Tb.U = updZ T1.U (q) (1000000) ∧ Tb.B = T1.B ∧ Tb.Y = T1.Y := by subst e_Tb; exact ⟨rfl, rfl, rfl, rfl, rfl⟩
    refine zr_const hx hb dX1_findUpTo_25 ?_
    refine zr_eq (y := ((0 : Nat) : Int)) (rfl) ?_
    refine lv_istore_n (lv' := [(2, .int (iZ (((0 : Nat) : Int)))), (1, .int (iZ (((q : Nat) : Int)))), (0, .ref (h 0))]) hx hb dX1_findUpTo_26 rfl hl (by decide) rfl (fun ls hl => ?_)
    have hFb : UT S T Tb q ∧ Tb.U q = pb_ui (pb_lc S T.b) (pb_up (pb_lc S T.b)) q 0 := ⟨⟨by rw [f_Tb.1]; exact hF.1, by rw [f_Tb.2.1]; exact hF.2.1, by rw [f_Tb.2.2.2.1]; exact hF.2.2.1, by rw [f_Tb.2.2.2.2]; exact hF.2.2.2.1, fun j hj => by rw [f_Tb.2.2.1, updZ_n _ _ (by omega)]; exact hF.2.2.2.2 j hj⟩, by rw [f_Tb.2.2.1, updZ_s]; rfl⟩
    refine zr_loopH (pc := 27) (nL := 4) (α := Pri) q (fun p _ => [(2, .int (iZ ((p : Nat) : Int))), (1, .int (iZ ((q : Nat) : Int))), (0, .ref (h 0))]) (fun p T2 H locs => va_P D vwCl (wX dB dI h S T2) H ∧ va_S A s.heap H locs ∧ UT S T T2 q ∧ T2.U q = pb_ui (pb_lc S T.b) (pb_up (pb_lc S T.b)) q p) ?_ 0 Tb H locs ls (Nat.zero_le _) ⟨hP, hS, hFb⟩ (lv_sub hl [0, 1, 2] rfl)
    clear hP hS hF hFb
    intro p T2 H locs ls hp hC hl ih2
    obtain ⟨hP, hS, hF2, hU2⟩ := hC
    have hl : lv_has ls 4 [(2, .int (iZ ((p : Nat) : Int))), (1, .int (iZ ((q : Nat) : Int))), (0, .ref (h 0))] := hl
    refine lv_iload_n hx hb dX1_findUpTo_27 rfl (lv_at hl 0 rfl) ?_
    refine lv_iload_n hx hb dX1_findUpTo_28 rfl (lv_at hl 1 rfl) ?_
    refine zr_icmp_ge (tgt := 93) hx hb dX1_findUpTo_29 (by decide) (by unfold Rng; omega) (fun c_29 => ?_) (fun c_29 => ?_)
    · have hpq : p = q := by omega
      refine zr_incN (lv' := [(1, .int (iZ (((q + 1 : Nat) : Int)))), (2, .int (iZ (((p : Nat) : Int)))), (0, .ref (h 0))]) hx hb dX1_findUpTo_93 hl 1 rfl (by decide) rfl (fun ls hl => ?_)
      refine lv_goto (tgt := 9) hx hb dX1_findUpTo_96 (by decide) ?_
      exact ih T2 H locs ls (by omega) ⟨hP, hS, ⟨hF2.1, hF2.2.1, hF2.2.2.1, hF2.2.2.2.1, fun j hj => by
        by_cases e : j = q
        · rw [e, hU2, hpq]
          obtain ⟨q0, rfl⟩ : ∃ q0, q = q0 + 1 := ⟨q - 1, by omega⟩
          rw [th_up_s]
        · exact hF2.2.2.2.2 j (by omega)⟩, by omega⟩ (lv_sub hl [0, 2] rfl)
    · have hlc := th_lc_bd hok T.b (p := p) (q := q) (by omega) (by omega)
      have hup := th_up_far (pb_lc S T.b) p
      have hup2 := th_up_low hL (q := p) (by omega)
      have hui := th_ui_far (pb_lc S T.b) (pb_up (pb_lc S T.b)) q p
      have hui2 : -440 ≤ pb_ui (pb_lc S T.b) (pb_up (pb_lc S T.b)) q p := th_ui_low (fun r hr => ⟨by rcases th_lc_bd hok T.b (p := r) (q := q) (by omega) (by omega) with z | z <;> omega, th_up_low hL (by omega)⟩)
      refine lv_aload_n hx hb dX1_findUpTo_32 rfl (lv_at hl 2 rfl) ?_
      refine lv_iload_n hx hb dX1_findUpTo_33 rfl (lv_at hl 0 rfl) ?_
      refine lv_iload_n hx hb dX1_findUpTo_34 rfl (lv_at hl 1 rfl) ?_
      refine zr_callV (rest := []) (As := [.int (iZ (((p : Nat) : Int))), .int (iZ (((q : Nat) : Int)))]) G.1 (mX_lineCost l D dB dI h S T2 hok (by rw [hF2.1]; exact hb0) p q (by omega) (by omega)) (lw_V q104 q106 qs3 q21 q107) hd_X1_lineCost ⟨⟨rfl, rfl⟩, Nat.le_of_ble_eq_true rfl, Nat.le_of_ble_eq_true rfl⟩ G.2 hP (wX_0 ..) rfl rfl hl.1 rfl (Nat.le_of_ble_eq_true rfl) dX1_findUpTo_35 ⟨Nat.zero_le _, Nat.zero_le _⟩ ?_
      refine zr_eq (y := pb_lc S T.b p q) (by rw [hF2.1]) ?_
      refine lv_istore_n (lv' := [(3, .int (iZ (pb_lc S T.b p q))), (2, .int (iZ (((p : Nat) : Int)))), (1, .int (iZ (((q : Nat) : Int)))), (0, .ref (h 0))]) hx hb dX1_findUpTo_38 rfl hl (by decide) rfl (fun ls hl => ?_)
      refine lv_iload_n hx hb dX1_findUpTo_39 rfl (lv_at hl 0 rfl) ?_
      refine zr_ldc (n := 1000000) hx hb G.1.2.2.2.1 (G.1.2.2.2.2 _ q99) dX1_findUpTo_40 (by decide) ?_
      refine zr_icmp_ge (tgt := 87) hx hb dX1_findUpTo_42 (by decide) (by unfold Rng; omega) (fun c_42 => ?_) (fun c_42 => ?_)
      · refine zr_incN (lv' := [(2, .int (iZ (((p + 1 : Nat) : Int)))), (3, .int (iZ (pb_lc S T.b p q))), (1, .int (iZ (((q : Nat) : Int)))), (0, .ref (h 0))]) hx hb dX1_findUpTo_87 hl 1 rfl (by decide) rfl (fun ls hl => ?_)
        refine lv_goto (tgt := 27) hx hb dX1_findUpTo_90 (by decide) ?_
        exact ih2 T2 H locs ls (by omega) ⟨hP, hS, hF2, by rw [hU2]; simp only [pb_ui]; rw [if_neg (by omega)]⟩ (lv_sub hl [0, 2, 3] rfl)
      · refine lv_aload_n hx hb dX1_findUpTo_45 rfl (lv_at hl 3 rfl) ?_
        refine gX_upTo G hP dX1_findUpTo_46 ?_
        refine lv_iload_n hx hb dX1_findUpTo_49 rfl (lv_at hl 1 rfl) ?_
        refine aX_upTo G hP (p) (by omega) (by omega) dX1_findUpTo_50 ?_
        refine zr_eq (y := pb_up (pb_lc S T.b) p) (hF2.2.2.2.2 p (by omega)) ?_
        refine zr_ldc (n := 1000000) hx hb G.1.2.2.2.1 (G.1.2.2.2.2 _ q99) dX1_findUpTo_51 (by decide) ?_
        refine zr_icmp_ge (tgt := 87) hx hb dX1_findUpTo_53 (by decide) (by unfold Rng; omega) (fun c_53 => ?_) (fun c_53 => ?_)
        · refine zr_incN (lv' := [(2, .int (iZ (((p + 1 : Nat) : Int)))), (3, .int (iZ (pb_lc S T.b p q))), (1, .int (iZ (((q : Nat) : Int)))), (0, .ref (h 0))]) hx hb dX1_findUpTo_87 hl 1 rfl (by decide) rfl (fun ls hl => ?_)
          refine lv_goto (tgt := 27) hx hb dX1_findUpTo_90 (by decide) ?_
          exact ih2 T2 H locs ls (by omega) ⟨hP, hS, hF2, by rw [hU2]; simp only [pb_ui]; rw [if_neg (by omega)]⟩ (lv_sub hl [0, 2, 3] rfl)
        · refine lv_aload_n hx hb dX1_findUpTo_56 rfl (lv_at hl 3 rfl) ?_
          refine gX_upTo G hP dX1_findUpTo_57 ?_
          refine lv_iload_n hx hb dX1_findUpTo_60 rfl (lv_at hl 1 rfl) ?_
          refine aX_upTo G hP (p) (by omega) (by omega) dX1_findUpTo_61 ?_
          refine zr_eq (y := pb_up (pb_lc S T.b) p) (hF2.2.2.2.2 p (by omega)) ?_
          refine lv_iload_n hx hb dX1_findUpTo_62 rfl (lv_at hl 0 rfl) ?_
          refine zr_add hx hb dX1_findUpTo_63 ?_
          refine lv_aload_n hx hb dX1_findUpTo_64 rfl (lv_at hl 3 rfl) ?_
          refine gX_upTo G hP dX1_findUpTo_65 ?_
          refine lv_iload_n hx hb dX1_findUpTo_68 rfl (lv_at hl 2 rfl) ?_
          refine aX_upTo G hP (q) (by omega) (by omega) dX1_findUpTo_69 ?_
          refine zr_eq (y := pb_ui (pb_lc S T.b) (pb_up (pb_lc S T.b)) q p) (hU2) ?_
          refine zr_icmp_ge (tgt := 87) hx hb dX1_findUpTo_70 (by decide) (by unfold Rng; omega) (fun c_70 => ?_) (fun c_70 => ?_)
          · refine zr_incN (lv' := [(2, .int (iZ (((p + 1 : Nat) : Int)))), (3, .int (iZ (pb_lc S T.b p q))), (1, .int (iZ (((q : Nat) : Int)))), (0, .ref (h 0))]) hx hb dX1_findUpTo_87 hl 1 rfl (by decide) rfl (fun ls hl => ?_)
            refine lv_goto (tgt := 27) hx hb dX1_findUpTo_90 (by decide) ?_
            exact ih2 T2 H locs ls (by omega) ⟨hP, hS, hF2, by rw [hU2]; simp only [pb_ui]; rw [if_neg (by omega)]⟩ (lv_sub hl [0, 2, 3] rfl)
          · refine lv_aload_n hx hb dX1_findUpTo_73 rfl (lv_at hl 3 rfl) ?_
            refine gX_upTo G hP dX1_findUpTo_74 ?_
            refine lv_iload_n hx hb dX1_findUpTo_77 rfl (lv_at hl 2 rfl) ?_
            refine lv_aload_n hx hb dX1_findUpTo_78 rfl (lv_at hl 3 rfl) ?_
            refine gX_upTo G hP dX1_findUpTo_79 ?_
            refine lv_iload_n hx hb dX1_findUpTo_82 rfl (lv_at hl 1 rfl) ?_
            refine aX_upTo G hP (p) (by omega) (by omega) dX1_findUpTo_83 ?_
            refine zr_eq (y := pb_up (pb_lc S T.b) p) (hF2.2.2.2.2 p (by omega)) ?_
            refine lv_iload_n hx hb dX1_findUpTo_84 rfl (lv_at hl 0 rfl) ?_
            refine zr_add hx hb dX1_findUpTo_85 ?_
            refine sX_upTo G hDD hS hP (q) (by omega) (by omega) dX1_findUpTo_86 (fun H locs hP hS => ?_)
            generalize e_Tc : Pri.of T2.b T2.O (updZ T2.U (q) ((pb_up (pb_lc S T.b) p) + (pb_lc S T.b p q))) T2.B T2.Y = Tc at hP
            have f_Tc : Tc.b = T2.b ∧ Tc.O = T2.O ∧ Tc.U = updZ T2.U (q) ((pb_up (pb_lc S T.b) p) + (pb_lc S T.b p q)) ∧ Tc.B = T2.B ∧ Tc.Y = T2.Y := by subst e_Tc; exact ⟨rfl, rfl, rfl, rfl, rfl⟩
            refine zr_incN (lv' := [(2, .int (iZ (((p + 1 : Nat) : Int)))), (3, .int (iZ (pb_lc S T.b p q))), (1, .int (iZ (((q : Nat) : Int)))), (0, .ref (h 0))]) hx hb dX1_findUpTo_87 hl 1 rfl (by decide) rfl (fun ls hl => ?_)
            refine lv_goto (tgt := 27) hx hb dX1_findUpTo_90 (by decide) ?_
            exact ih2 Tc H locs ls (by omega) ⟨hP, hS, ⟨by rw [f_Tc.1]; exact hF2.1, by rw [f_Tc.2.1]; exact hF2.2.1, by rw [f_Tc.2.2.2.1]; exact hF2.2.2.1, by rw [f_Tc.2.2.2.2]; exact hF2.2.2.2.1, fun j hj => by rw [f_Tc.2.2.1, updZ_n _ _ (by omega)]; exact hF2.2.2.2.2 j hj⟩, by rw [f_Tc.2.2.1, updZ_s]; simp only [pb_ui]; rw [if_pos ⟨by omega, by omega, by omega⟩]⟩ (lv_sub hl [0, 2, 3] rfl)
set_option maxHeartbeats 4000000 in
set_option maxRecDepth 100000 in
/-- costBreaking(i) -/
theorem mX_costBreaking (l : Launch) (D : va_G) (dB dI : ClassId) (h : Nat → Nat) (S : Par) (T : Pri) (hok : pb_Ok S) (i : Int) (hi : Rng i) : WRi l yX1_costBreaking cX1_costBreaking 3 (some .int) ({ frames := 5, cells := 0, slots := 0, locals := 117 }) D (tyA dB dI) (wXu dB dI h) (S, T) [.ref (h 0), .int (iZ (i))] (fun r u => r = iZ (xa_costBreaking S i) ∧ S = u.1) := by
  refine WRi.mk (by decide) (Nat.le_of_ble_eq_true rfl) (wXu_adr dB dI h _) ?_
  intro pr e s m below meth c ls A G hr hlocks hA hD hS hP hl
  have G : CX pr m c cX1_costBreaking 3 s _ D dB dI := G
  have hDD : ∀ S T, va_D A (wX dB dI h S T) := fun S T => hD (S, T)
  have hP : va_P D vwCl (wX dB dI h S T) s.heap := hP
  have hx := G.1.1
  have hb := G.1.2.1
  have hl : lv_has ls 3 [(0, .ref (h 0)), (1, .int (iZ (i)))] := hl
  unfold Rng at hi
  have hc10 := hok.2.2.1
  have hL : th_Lb (pb_L S) S.c := th_lb_of hok (-1)
  refine lv_iload_n hx hb dX1_costBreaking_0 rfl (lv_at hl 1 rfl) ?_
  refine zr_if_lt (tgt := 14) hx hb dX1_costBreaking_1 (by decide) (by unfold Rng; omega) (fun c_1 => ?_) (fun c_1 => ?_)
  · refine zr_ldc (n := -1000000) hx hb G.1.2.2.2.1 (G.1.2.2.2.2 _ q120) dX1_costBreaking_14 (by decide) ?_
    exact wr_ret hx hb hr hlocks hS (S, T) hP ⟨by unfold xa_costBreaking; rw [if_pos (by omega)], rfl⟩ dX1_costBreaking_16
  · refine lv_iload_n hx hb dX1_costBreaking_4 rfl (lv_at hl 1 rfl) ?_
    refine lv_aload_n hx hb dX1_costBreaking_5 rfl (lv_at hl 0 rfl) ?_
    refine gX_count G hP dX1_costBreaking_6 ?_
    refine zr_const hx hb dX1_costBreaking_9 ?_
    refine zr_sub hx hb dX1_costBreaking_10 ?_
    refine zr_icmp_lt (tgt := 17) hx hb dX1_costBreaking_11 (by decide) (by unfold Rng; omega) (fun c_11 => ?_) (fun c_11 => ?_)
    · refine lv_aload_n hx hb dX1_costBreaking_17 rfl (lv_at hl 0 rfl) ?_
      refine wr_callv (rest := []) (As := []) (w := wXu dB dI h) (u0 := (S, T)) G.1 (mX_start l D dB dI h S T hok) (lw_V q91 q93 qs0 q21 q94) hd_X1_start ⟨⟨rfl, rfl⟩, Nat.le_of_ble_eq_true rfl, Nat.le_of_ble_eq_true rfl⟩ G.2 hP (hD _) hS hA (wX_0 ..) rfl rfl hl.1 rfl (Nat.le_of_ble_eq_true rfl) dX1_costBreaking_18 ⟨Nat.zero_le _, Nat.zero_le _⟩ (fun u1 H locs hp1 hP hS => ?_)
      obtain ⟨S1, T1⟩ := u1
      obtain ⟨eS, hT⟩ := hp1
      dsimp only at eS hT
      subst eS
      have hP : va_P D vwCl (wX dB dI h S T1) H := hP
      refine lv_aload_n hx hb dX1_costBreaking_21 rfl (lv_at hl 0 rfl) ?_
      refine wr_callv (rest := []) (As := []) (w := wXu dB dI h) (u0 := (S, T1)) G.1 (mX_findUpTo l D dB dI h S T1 hok (by rw [hT.1]; omega)) (lw_V q158 q160 qs10 q21 q161) hd_X1_findUpTo ⟨⟨rfl, rfl⟩, Nat.le_of_ble_eq_true rfl, Nat.le_of_ble_eq_true rfl⟩ G.2 hP (hD _) hS hA (wX_0 ..) rfl rfl hl.1 rfl (Nat.le_of_ble_eq_true rfl) dX1_costBreaking_22 ⟨Nat.zero_le _, Nat.zero_le _⟩ (fun u2 H locs hp2 hP hS => ?_)
      have hT1 := hT
      obtain ⟨S2, T2⟩ := u2
      obtain ⟨eS, hT⟩ := hp2
      dsimp only at eS hT
      subst eS
      have hP : va_P D vwCl (wX dB dI h S T2) H := hP
      obtain ⟨q0, hq0, hU⟩ := hT
      rw [UT, hT1.1] at hU
      have hu : T2.U (i.toNat + 1) = pb_up (pb_L S) (i.toNat + 1) := hU.2.2.2.2 (i.toNat + 1) (by omega)
      have hbe : T2.B (i.toNat + 1) = pb_be (pb_L S) S.c (i.toNat + 1) := by rw [hU.2.2.1]; exact (hT1.2.2 (i.toNat + 1) (by omega)).1
      have u1 := th_up_far (pb_L S) (i.toNat + 1)
      have u2 := th_up_low hL (q := i.toNat + 1) (by omega)
      have u3 := th_be_far (pb_L S) S.c (i.toNat + 1)
      have u4 := (th_be_bd hL (i.toNat + 1)).1
      refine lv_iload_n hx hb dX1_costBreaking_25 rfl (lv_at hl 1 rfl) ?_
      refine zr_const hx hb dX1_costBreaking_26 ?_
      refine zr_add hx hb dX1_costBreaking_27 ?_
      refine zr_eq (y := ((i.toNat + 1 : Nat) : Int)) (by omega) ?_
      refine lv_istore_n (lv' := [(2, .int (iZ (((i.toNat + 1 : Nat) : Int)))), (0, .ref (h 0)), (1, .int (iZ (i)))]) hx hb dX1_costBreaking_28 rfl hl (by decide) rfl (fun ls hl => ?_)
      refine lv_aload_n hx hb dX1_costBreaking_29 rfl (lv_at hl 1 rfl) ?_
      refine gX_upTo G hP dX1_costBreaking_30 ?_
      refine lv_iload_n hx hb dX1_costBreaking_33 rfl (lv_at hl 0 rfl) ?_
      refine aX_upTo G hP (i.toNat + 1) (by omega) (by omega) dX1_costBreaking_34 ?_
      refine zr_eq (y := pb_up (pb_L S) (i.toNat + 1)) (hu) ?_
      refine zr_ldc (n := 1000000) hx hb G.1.2.2.2.1 (G.1.2.2.2.2 _ q99) dX1_costBreaking_35 (by decide) ?_
      refine zr_icmp_ge (tgt := 67) hx hb dX1_costBreaking_37 (by decide) (by unfold Rng; omega) (fun c_37 => ?_) (fun c_37 => ?_)
      · refine zr_ldc (n := -1000000) hx hb G.1.2.2.2.1 (G.1.2.2.2.2 _ q120) dX1_costBreaking_67 (by decide) ?_
        exact wr_ret hx hb hr hlocks hS (S, T2) hP ⟨by unfold xa_costBreaking; rw [if_neg (show ¬ (i < 0 ∨ (S.c : Int) - 1 ≤ i) by omega), if_neg (by omega)], rfl⟩ dX1_costBreaking_69
      · refine lv_aload_n hx hb dX1_costBreaking_40 rfl (lv_at hl 1 rfl) ?_
        refine gX_best G hP dX1_costBreaking_41 ?_
        refine lv_iload_n hx hb dX1_costBreaking_44 rfl (lv_at hl 0 rfl) ?_
        refine aX_best G hP (i.toNat + 1) (by omega) (by omega) dX1_costBreaking_45 ?_
        refine zr_eq (y := pb_be (pb_L S) S.c (i.toNat + 1)) (hbe) ?_
        refine zr_ldc (n := 1000000) hx hb G.1.2.2.2.1 (G.1.2.2.2.2 _ q99) dX1_costBreaking_46 (by decide) ?_
        refine zr_icmp_ge (tgt := 67) hx hb dX1_costBreaking_48 (by decide) (by unfold Rng; omega) (fun c_48 => ?_) (fun c_48 => ?_)
        · refine zr_ldc (n := -1000000) hx hb G.1.2.2.2.1 (G.1.2.2.2.2 _ q120) dX1_costBreaking_67 (by decide) ?_
          exact wr_ret hx hb hr hlocks hS (S, T2) hP ⟨by unfold xa_costBreaking; rw [if_neg (show ¬ (i < 0 ∨ (S.c : Int) - 1 ≤ i) by omega), if_neg (by omega)], rfl⟩ dX1_costBreaking_69
        · refine lv_aload_n hx hb dX1_costBreaking_51 rfl (lv_at hl 1 rfl) ?_
          refine gX_upTo G hP dX1_costBreaking_52 ?_
          refine lv_iload_n hx hb dX1_costBreaking_55 rfl (lv_at hl 0 rfl) ?_
          refine aX_upTo G hP (i.toNat + 1) (by omega) (by omega) dX1_costBreaking_56 ?_
          refine zr_eq (y := pb_up (pb_L S) (i.toNat + 1)) (hu) ?_
          refine lv_aload_n hx hb dX1_costBreaking_57 rfl (lv_at hl 1 rfl) ?_
          refine gX_best G hP dX1_costBreaking_58 ?_
          refine lv_iload_n hx hb dX1_costBreaking_61 rfl (lv_at hl 0 rfl) ?_
          refine aX_best G hP (i.toNat + 1) (by omega) (by omega) dX1_costBreaking_62 ?_
          refine zr_eq (y := pb_be (pb_L S) S.c (i.toNat + 1)) (hbe) ?_
          refine zr_add hx hb dX1_costBreaking_63 ?_
          refine lv_goto (tgt := 69) hx hb dX1_costBreaking_64 (by decide) ?_
          exact wr_ret hx hb hr hlocks hS (S, T2) hP ⟨by unfold xa_costBreaking; rw [if_neg (show ¬ (i < 0 ∨ (S.c : Int) - 1 ≤ i) by omega), if_pos ⟨by omega, by omega⟩], rfl⟩ dX1_costBreaking_69
    · refine zr_ldc (n := -1000000) hx hb G.1.2.2.2.1 (G.1.2.2.2.2 _ q120) dX1_costBreaking_14 (by decide) ?_
      exact wr_ret hx hb hr hlocks hS (S, T) hP ⟨by unfold xa_costBreaking; rw [if_pos (by omega)], rfl⟩ dX1_costBreaking_16
set_option maxHeartbeats 4000000 in
set_option maxRecDepth 100000 in
/-- costKeeping(i) -/
theorem mX_costKeeping (l : Launch) (D : va_G) (dB dI : ClassId) (h : Nat → Nat) (S : Par) (T : Pri) (hok : pb_Ok S) (i : Int) (hi : Rng i) : WRi l yX1_costKeeping cX1_costKeeping 2 (some .int) ({ frames := 4, cells := 0, slots := 0, locals := 97 }) D (tyA dB dI) (wXu dB dI h) (S, T) [.ref (h 0), .int (iZ (i))] (fun r u => r = iZ (xa_costKeeping S i) ∧ S = u.1) := by
  refine WRi.mk (by decide) (Nat.le_of_ble_eq_true rfl) (wXu_adr dB dI h _) ?_
  intro pr e s m below meth c ls A G hr hlocks hA hD hS hP hl
  have G : CX pr m c cX1_costKeeping 2 s _ D dB dI := G
  have hDD : ∀ S T, va_D A (wX dB dI h S T) := fun S T => hD (S, T)
  have hP : va_P D vwCl (wX dB dI h S T) s.heap := hP
  have hx := G.1.1
  have hb := G.1.2.1
  have hl : lv_has ls 2 [(0, .ref (h 0)), (1, .int (iZ (i)))] := hl
  unfold Rng at hi
  have hc10 := hok.2.2.1
  refine lv_iload_n hx hb dX1_costKeeping_0 rfl (lv_at hl 1 rfl) ?_
  refine zr_if_lt (tgt := 14) hx hb dX1_costKeeping_1 (by decide) (by unfold Rng; omega) (fun c_1 => ?_) (fun c_1 => ?_)
  · refine zr_ldc (n := -1000000) hx hb G.1.2.2.2.1 (G.1.2.2.2.2 _ q120) dX1_costKeeping_14 (by decide) ?_
    exact wr_ret hx hb hr hlocks hS (S, T) hP ⟨by unfold xa_costKeeping; rw [if_pos (by omega)], rfl⟩ dX1_costKeeping_16
  · refine lv_iload_n hx hb dX1_costKeeping_4 rfl (lv_at hl 1 rfl) ?_
    refine lv_aload_n hx hb dX1_costKeeping_5 rfl (lv_at hl 0 rfl) ?_
    refine gX_count G hP dX1_costKeeping_6 ?_
    refine zr_const hx hb dX1_costKeeping_9 ?_
    refine zr_sub hx hb dX1_costKeeping_10 ?_
    refine zr_icmp_lt (tgt := 17) hx hb dX1_costKeeping_11 (by decide) (by unfold Rng; omega) (fun c_11 => ?_) (fun c_11 => ?_)
    · refine lv_aload_n hx hb dX1_costKeeping_17 rfl (lv_at hl 0 rfl) ?_
      refine lv_iload_n hx hb dX1_costKeeping_18 rfl (lv_at hl 1 rfl) ?_
      refine pX_barred (x := i) G hDD hS hP dX1_costKeeping_19 (fun H locs hP hS => ?_)
      generalize e_T1 : Pri.of (i) T.O T.U T.B T.Y = T1 at hP
      have f_T1 : T1.b = i ∧ T1.O = T.O ∧ T1.U = T.U ∧ T1.B = T.B ∧ T1.Y = T.Y := by subst e_T1; exact ⟨rfl, rfl, rfl, rfl, rfl⟩
      refine lv_aload_n hx hb dX1_costKeeping_22 rfl (lv_at hl 0 rfl) ?_
      refine wr_callv (rest := []) (As := []) (w := wXu dB dI h) (u0 := (S, T1)) G.1 (mX_learn l D dB dI h S T1 hok (by rw [f_T1.1]; omega)) (lw_V q95 q97 qs1 q21 q98) hd_X1_learn ⟨⟨rfl, rfl⟩, Nat.le_of_ble_eq_true rfl, Nat.le_of_ble_eq_true rfl⟩ G.2 hP (hD _) hS hA (wX_0 ..) rfl rfl hl.1 rfl (Nat.le_of_ble_eq_true rfl) dX1_costKeeping_23 ⟨Nat.zero_le _, Nat.zero_le _⟩ (fun u2 H locs hp2 hP hS => ?_)
      obtain ⟨S2, T2⟩ := u2
      obtain ⟨eS, hT⟩ := hp2
      dsimp only at eS hT
      subst eS
      have hP : va_P D vwCl (wX dB dI h S T2) H := hP
      rw [f_T1.1] at hT
      have u3 := th_be_far (pb_lc S i) S.c 0
      have u4 := (th_be_bd (th_lb_of hok i) 0).1
      refine lv_aload_n hx hb dX1_costKeeping_26 rfl (lv_at hl 0 rfl) ?_
      refine gX_best G hP dX1_costKeeping_27 ?_
      refine zr_const hx hb dX1_costKeeping_30 ?_
      refine aX_best G hP (0) (by omega) (by omega) dX1_costKeeping_31 ?_
      refine zr_eq (y := pb_be (pb_lc S i) S.c 0) ((hT.2.2 0 (by omega)).1) ?_
      refine zr_ldc (n := 1000000) hx hb G.1.2.2.2.1 (G.1.2.2.2.2 _ q99) dX1_costKeeping_32 (by decide) ?_
      refine zr_icmp_ge (tgt := 46) hx hb dX1_costKeeping_34 (by decide) (by unfold Rng; omega) (fun c_34 => ?_) (fun c_34 => ?_)
      · refine zr_ldc (n := -1000000) hx hb G.1.2.2.2.1 (G.1.2.2.2.2 _ q120) dX1_costKeeping_46 (by decide) ?_
        exact wr_ret hx hb hr hlocks hS (S, T2) hP ⟨by unfold xa_costKeeping pb_far; rw [if_neg (show ¬ (i < 0 ∨ (S.c : Int) - 1 ≤ i) by omega), if_neg (by omega)], rfl⟩ dX1_costKeeping_48
      · refine lv_aload_n hx hb dX1_costKeeping_37 rfl (lv_at hl 0 rfl) ?_
        refine gX_best G hP dX1_costKeeping_38 ?_
        refine zr_const hx hb dX1_costKeeping_41 ?_
        refine aX_best G hP (0) (by omega) (by omega) dX1_costKeeping_42 ?_
        refine zr_eq (y := pb_be (pb_lc S i) S.c 0) ((hT.2.2 0 (by omega)).1) ?_
        refine lv_goto (tgt := 48) hx hb dX1_costKeeping_43 (by decide) ?_
        exact wr_ret hx hb hr hlocks hS (S, T2) hP ⟨by unfold xa_costKeeping pb_far; rw [if_neg (show ¬ (i < 0 ∨ (S.c : Int) - 1 ≤ i) by omega), if_pos (by omega)], rfl⟩ dX1_costKeeping_48
    · refine zr_ldc (n := -1000000) hx hb G.1.2.2.2.1 (G.1.2.2.2.2 _ q120) dX1_costKeeping_14 (by decide) ?_
      exact wr_ret hx hb hr hlocks hS (S, T) hP ⟨by unfold xa_costKeeping; rw [if_pos (by omega)], rfl⟩ dX1_costKeeping_16
set_option maxHeartbeats 4000000 in
set_option maxRecDepth 100000 in
/-- choices() -/
theorem mX_choices (l : Launch) (D : va_G) (dB dI : ClassId) (h : Nat → Nat) (S : Par) (T : Pri) (hok : pb_Ok S) : WRi l yX1_choices cX1_choices 1 (some .int) ({ frames := 5, cells := 0, slots := 0, locals := 117 }) D (tyA dB dI) (wXu dB dI h) (S, T) [.ref (h 0)] (fun r u => r = iZ (xa_choices S) ∧ S = u.1) := by
  refine WRi.mk (by decide) (Nat.le_of_ble_eq_true rfl) (wXu_adr dB dI h _) ?_
  intro pr e s m below meth c ls A G hr hlocks hA hD hS hP hl
  have G : CX pr m c cX1_choices 1 s _ D dB dI := G
  have hDD : ∀ S T, va_D A (wX dB dI h S T) := fun S T => hD (S, T)
  have hP : va_P D vwCl (wX dB dI h S T) s.heap := hP
  have hx := G.1.1
  have hb := G.1.2.1
  have hl : lv_has ls 1 [(0, .ref (h 0))] := hl
  refine lv_aload_n hx hb dX1_choices_0 rfl (lv_at hl 0 rfl) ?_
  refine wr_callv (rest := []) (As := []) (w := wXu dB dI h) (u0 := (S, T)) G.1 (mX_start l D dB dI h S T hok) (lw_V q91 q93 qs0 q21 q94) hd_X1_start ⟨⟨rfl, rfl⟩, Nat.le_of_ble_eq_true rfl, Nat.le_of_ble_eq_true rfl⟩ G.2 hP (hD _) hS hA (wX_0 ..) rfl rfl hl.1 rfl (Nat.le_of_ble_eq_true rfl) dX1_choices_1 ⟨Nat.zero_le _, Nat.zero_le _⟩ (fun u1 H locs hp1 hP hS => ?_)
  obtain ⟨S1, T1⟩ := u1
  obtain ⟨eS, hT⟩ := hp1
  dsimp only at eS hT
  subst eS
  have hP : va_P D vwCl (wX dB dI h S T1) H := hP
  refine lv_aload_n hx hb dX1_choices_4 rfl (lv_at hl 0 rfl) ?_
  refine gX_ways G hP dX1_choices_5 ?_
  refine zr_const hx hb dX1_choices_8 ?_
  refine aX_ways G hP (0) (by omega) (by omega) dX1_choices_9 ?_
  refine zr_eq (y := pb_wy (pb_L S) S.c 0) ((hT.2.2 0 (by omega)).2) ?_
  exact wr_ret hx hb hr hlocks hS (S, T1) hP ⟨rfl, rfl⟩ dX1_choices_10
end
section
/-! THE COMPONENT's writing methods, 3: the paragraph changes. The same pure words serve the reference -/
def op_wordR (S : Par) (a b : Int) : Int := if pb_okI a b = 1 then (if S.c < 10 then (S.c : Int) else -2) else -1
def op_wordS (S : Par) (a b : Int) : Par := if pb_okI a b = 1 ∧ S.c < 10 then Par.of S.w S.e (S.c + 1) (updZ S.W S.c a) (updZ S.P S.c b) else S
def op_backR (S : Par) : Int := if S.c = 0 then -1 else (S.c : Int) - 1
def op_backS (S : Par) : Par := if S.c = 0 then S else Par.of S.w S.e (S.c - 1) S.W S.P
def op_changeC (S : Par) (i a b : Int) : Prop := 0 ≤ i ∧ i < (S.c : Int) ∧ 1 ≤ a ∧ a ≤ 12 ∧ -40 ≤ b ∧ b ≤ 40
def op_changeR (S : Par) (i a b : Int) : Int := if 0 ≤ i ∧ i < (S.c : Int) ∧ pb_okI a b = 1 then 1 else 0
def op_changeS (S : Par) (i a b : Int) : Par := if 0 ≤ i ∧ i < (S.c : Int) ∧ pb_okI a b = 1 then Par.of S.w S.e S.c (updZ S.W i.toNat a) (updZ S.P i.toNat b) else S
def op_widthR (x : Int) : Int := if 5 ≤ x ∧ x ≤ 60 then 1 else 0
def op_widthS (S : Par) (x : Int) : Par := if 5 ≤ x ∧ x ≤ 60 then Par.of x S.e S.c S.W S.P else S
theorem okI_01 (a b : Int) : 0 ≤ pb_okI a b ∧ pb_okI a b ≤ 1 := by unfold pb_okI; split <;> omega
theorem okI_1 {a b : Int} (h : pb_okI a b = 1) : (1 ≤ a ∧ a ≤ 12) ∧ -40 ≤ b ∧ b ≤ 40 := by
  unfold pb_okI at h
  split at h
  · omega
  · omega
theorem ok_upd {f : Nat → Int} {lo hi x : Int} (hf : ∀ i, lo ≤ f i ∧ f i ≤ hi) (hx : lo ≤ x ∧ x ≤ hi) (k : Nat) : ∀ i, lo ≤ updZ f k x i ∧ updZ f k x i ≤ hi := by
  intro i
  unfold updZ
  split
  · exact hx
  · exact hf i
theorem ok_word {S : Par} (h : pb_Ok S) (a b : Int) : pb_Ok (op_wordS S a b) := by
  unfold op_wordS
  split
  · rename_i q
    have := okI_1 q.1
    exact ⟨h.1, h.2.1, (by show S.c + 1 ≤ 10; omega), ok_upd h.2.2.2.1 (by omega) _, ok_upd h.2.2.2.2 (by omega) _⟩
  · exact h
theorem ok_back {S : Par} (h : pb_Ok S) : pb_Ok (op_backS S) := by
  unfold op_backS
  split
  · exact h
  · exact ⟨h.1, h.2.1, (by have := h.2.2.1; show S.c - 1 ≤ 10; omega), h.2.2.2.1, h.2.2.2.2⟩
theorem ok_change {S : Par} (h : pb_Ok S) (i a b : Int) : pb_Ok (op_changeS S i a b) := by
  unfold op_changeS
  split
  · rename_i q
    have := okI_1 q.2.2
    exact ⟨h.1, h.2.1, h.2.2.1, ok_upd h.2.2.2.1 (by omega) _, ok_upd h.2.2.2.2 (by omega) _⟩
  · exact h
theorem ok_width {S : Par} (h : pb_Ok S) (x : Int) : pb_Ok (op_widthS S x) := by
  unfold op_widthS
  split
  · exact ⟨by assumption, h.2.1, h.2.2.1, h.2.2.2.1, h.2.2.2.2⟩
  · exact h
theorem ok_new (w e : Int) : pb_Ok (pb_new w e) := by
  refine ⟨?_, ?_, (by show 0 ≤ 10; omega), fun i => (by show 0 ≤ (0 : Int) ∧ (0 : Int) ≤ 12; omega), fun i => (by show -40 ≤ (0 : Int) ∧ (0 : Int) ≤ 40; omega)⟩
  · show 5 ≤ pb_cap 5 60 w ∧ pb_cap 5 60 w ≤ 60
    unfold pb_cap
    split
    · omega
    · split <;> omega
  · show 0 ≤ pb_cap 0 100 e ∧ pb_cap 0 100 e ≤ 100
    unfold pb_cap
    split
    · omega
    · split <;> omega
set_option maxHeartbeats 4000000 in
set_option maxRecDepth 100000 in
/-- word(a, b) -/
theorem mX_word (l : Launch) (D : va_G) (dB dI : ClassId) (h : Nat → Nat) (S : Par) (T : Pri) (hok : pb_Ok S) (a b : Int) (ha : Rng a) (hb1 : Rng b) : WRi l yX1_word cX1_word 3 (some .int) ({ frames := 1, cells := 0, slots := 0, locals := 21 }) D (tyA dB dI) (wXu dB dI h) (S, T) [.ref (h 0), .int (iZ (a)), .int (iZ (b))] (fun r u => r = iZ (op_wordR S a b) ∧ op_wordS S a b = u.1) := by
  refine WRi.mk (by decide) (Nat.le_of_ble_eq_true rfl) (wXu_adr dB dI h _) ?_
  intro pr e s m below meth c ls A G hr hlocks hA hD hS hP hl
  have G : CX pr m c cX1_word 3 s _ D dB dI := G
  have hDD : ∀ S T, va_D A (wX dB dI h S T) := fun S T => hD (S, T)
  have hP : va_P D vwCl (wX dB dI h S T) s.heap := hP
  have hx := G.1.1
  have hb := G.1.2.1
  have hl : lv_has ls 3 [(0, .ref (h 0)), (1, .int (iZ (a))), (2, .int (iZ (b)))] := hl
  have hc10 := hok.2.2.1
  have h01 := okI_01 a b
  refine lv_iload_n hx hb dX1_word_0 rfl (lv_at hl 1 rfl) ?_
  refine lv_iload_n hx hb dX1_word_1 rfl (lv_at hl 2 rfl) ?_
  refine zr_callS (rest := []) (As := [.int (iZ (a)), .int (iZ (b))]) G.1 (mX_wordOk l D dB dI h S T a b ha hb1) (lw_S q68 q69 q21 q70) hd_X1_wordOk ⟨⟨rfl, rfl⟩, Nat.le_of_ble_eq_true rfl, Nat.le_of_ble_eq_true rfl⟩ G.2 hP hl.1 rfl (Nat.le_of_ble_eq_true rfl) dX1_word_2 ⟨Nat.zero_le _, Nat.zero_le _⟩ ?_
  refine zr_if_ne (tgt := 10) hx hb dX1_word_5 (by decide) (by unfold Rng; omega) (fun c_5 => ?_) (fun c_5 => ?_)
  · have hab := okI_1 (show pb_okI a b = 1 by omega)
    refine lv_aload_n hx hb dX1_word_10 rfl (lv_at hl 0 rfl) ?_
    refine gX_count G hP dX1_word_11 ?_
    refine zr_bipush hx hb dX1_word_14 (by decide) ?_
    refine zr_icmp_lt (tgt := 22) hx hb dX1_word_16 (by decide) (by unfold Rng; omega) (fun c_16 => ?_) (fun c_16 => ?_)
    · refine lv_aload_n hx hb dX1_word_22 rfl (lv_at hl 0 rfl) ?_
      refine gX_widths G hP dX1_word_23 ?_
      refine lv_aload_n hx hb dX1_word_26 rfl (lv_at hl 0 rfl) ?_
      refine gX_count G hP dX1_word_27 ?_
      refine lv_iload_n hx hb dX1_word_30 rfl (lv_at hl 1 rfl) ?_
      refine zr_i2b hx hb dX1_word_31 (by omega) ?_
      refine sX_widths G hDD hS hP (S.c) (by omega) (by omega) (by omega) dX1_word_32 (fun H locs hP hS => ?_)
      generalize e_Sa : Par.of S.w S.e S.c (updZ S.W (S.c) (a)) S.P = Sa at hP
      refine lv_aload_n hx hb dX1_word_33 rfl (lv_at hl 0 rfl) ?_
      refine gX_pens G hP dX1_word_34 ?_
      refine lv_aload_n hx hb dX1_word_37 rfl (lv_at hl 0 rfl) ?_
      refine gX_count G hP dX1_word_38 ?_
      refine lv_iload_n hx hb dX1_word_41 rfl (lv_at hl 2 rfl) ?_
      refine zr_i2b hx hb dX1_word_42 (by omega) ?_
      refine sX_pens G hDD hS hP (S.c) (by subst e_Sa; rfl) (by omega) (by omega) dX1_word_43 (fun H locs hP hS => ?_)
      generalize e_Sb : Par.of Sa.w Sa.e Sa.c Sa.W (updZ Sa.P (S.c) (b)) = Sb at hP
      refine lv_aload_n hx hb dX1_word_44 rfl (lv_at hl 0 rfl) ?_
      refine lv_dup hx hb dX1_word_45 rfl ?_
      refine gX_count G hP dX1_word_46 ?_
      refine zr_const hx hb dX1_word_49 ?_
      refine zr_add hx hb dX1_word_50 ?_
      refine zr_eq (y := ((S.c + 1 : Nat) : Int)) (by subst e_Sb; subst e_Sa; rfl) ?_
      refine pX_count (x := S.c + 1) G hDD hS hP dX1_word_51 (fun H locs hP hS => ?_)
      generalize e_S3 : Par.of Sb.w Sb.e (S.c + 1) Sb.W Sb.P = S3 at hP
      refine lv_aload_n hx hb dX1_word_54 rfl (lv_at hl 0 rfl) ?_
      refine gX_count G hP dX1_word_55 ?_
      refine zr_const hx hb dX1_word_58 ?_
      refine zr_sub hx hb dX1_word_59 ?_
      exact wr_ret hx hb hr hlocks hS (S3, T) hP ⟨by subst e_S3; subst e_Sb; subst e_Sa; unfold op_wordR; rw [if_pos (by omega), if_pos (by omega)]; congr 1; show ((S.c + 1 : Nat) : Int) - 1 = S.c; omega, by subst e_S3; subst e_Sb; subst e_Sa; unfold op_wordS; rw [if_pos (by omega)]; rfl⟩ dX1_word_60
    · refine zr_bipush hx hb dX1_word_19 (by decide) ?_
      exact wr_ret hx hb hr hlocks hS (S, T) hP ⟨by unfold op_wordR; rw [if_pos (by omega), if_neg (by omega)], by unfold op_wordS; rw [if_neg (by omega)]⟩ dX1_word_21
  · refine zr_const hx hb dX1_word_8 ?_
    exact wr_ret hx hb hr hlocks hS (S, T) hP ⟨by unfold op_wordR; rw [if_neg (by omega)], by unfold op_wordS; rw [if_neg (by omega)]⟩ dX1_word_9
set_option maxHeartbeats 4000000 in
set_option maxRecDepth 100000 in
/-- back() -/
theorem mX_back (l : Launch) (D : va_G) (dB dI : ClassId) (h : Nat → Nat) (S : Par) (T : Pri) (hok : pb_Ok S) : WRi l yX1_back cX1_back 1 (some .int) ({ frames := 0, cells := 0, slots := 0, locals := 0 }) D (tyA dB dI) (wXu dB dI h) (S, T) [.ref (h 0)] (fun r u => r = iZ (op_backR S) ∧ op_backS S = u.1) := by
  refine WRi.mk (by decide) (Nat.le_of_ble_eq_true rfl) (wXu_adr dB dI h _) ?_
  intro pr e s m below meth c ls A G hr hlocks hA hD hS hP hl
  have G : CX pr m c cX1_back 1 s _ D dB dI := G
  have hDD : ∀ S T, va_D A (wX dB dI h S T) := fun S T => hD (S, T)
  have hP : va_P D vwCl (wX dB dI h S T) s.heap := hP
  have hx := G.1.1
  have hb := G.1.2.1
  have hl : lv_has ls 1 [(0, .ref (h 0))] := hl
  have hc10 := hok.2.2.1
  refine lv_aload_n hx hb dX1_back_0 rfl (lv_at hl 0 rfl) ?_
  refine gX_count G hP dX1_back_1 ?_
  refine zr_if_ne (tgt := 9) hx hb dX1_back_4 (by decide) (by unfold Rng; omega) (fun c_4 => ?_) (fun c_4 => ?_)
  · refine lv_aload_n hx hb dX1_back_9 rfl (lv_at hl 0 rfl) ?_
    refine lv_dup hx hb dX1_back_10 rfl ?_
    refine gX_count G hP dX1_back_11 ?_
    refine zr_const hx hb dX1_back_14 ?_
    refine zr_sub hx hb dX1_back_15 ?_
    refine zr_eq (y := ((S.c - 1 : Nat) : Int)) (by omega) ?_
    refine pX_count (x := S.c - 1) G hDD hS hP dX1_back_16 (fun H locs hP hS => ?_)
    generalize e_S1 : Par.of S.w S.e (S.c - 1) S.W S.P = S1 at hP
    refine lv_aload_n hx hb dX1_back_19 rfl (lv_at hl 0 rfl) ?_
    refine gX_count G hP dX1_back_20 ?_
    exact wr_ret hx hb hr hlocks hS (S1, T) hP ⟨by subst e_S1; unfold op_backR; rw [if_neg (by omega)]; congr 1; show ((S.c - 1 : Nat) : Int) = (S.c : Int) - 1; omega, by subst e_S1; unfold op_backS; rw [if_neg (by omega)]⟩ dX1_back_23
  · refine zr_const hx hb dX1_back_7 ?_
    exact wr_ret hx hb hr hlocks hS (S, T) hP ⟨by unfold op_backR; rw [if_pos (by omega)], by unfold op_backS; rw [if_pos (by omega)]⟩ dX1_back_8
set_option maxHeartbeats 4000000 in
set_option maxRecDepth 100000 in
/-- change(i, a, b) -/
theorem mX_change (l : Launch) (D : va_G) (dB dI : ClassId) (h : Nat → Nat) (S : Par) (T : Pri) (hok : pb_Ok S) (i a b : Int) (hi : Rng i) (ha : Rng a) (hb1 : Rng b) : WRi l yX1_change cX1_change 4 (some .boolean) ({ frames := 1, cells := 0, slots := 0, locals := 21 }) D (tyA dB dI) (wXu dB dI h) (S, T) [.ref (h 0), .int (iZ (i)), .int (iZ (a)), .int (iZ (b))] (fun r u => r = iZ (op_changeR S i a b) ∧ op_changeS S i a b = u.1) := by
  refine WRi.mk (by decide) (Nat.le_of_ble_eq_true rfl) (wXu_adr dB dI h _) ?_
  intro pr e s m below meth c ls A G hr hlocks hA hD hS hP hl
  have G : CX pr m c cX1_change 4 s _ D dB dI := G
  have hDD : ∀ S T, va_D A (wX dB dI h S T) := fun S T => hD (S, T)
  have hP : va_P D vwCl (wX dB dI h S T) s.heap := hP
  have hx := G.1.1
  have hb := G.1.2.1
  have hl : lv_has ls 4 [(0, .ref (h 0)), (1, .int (iZ (i))), (2, .int (iZ (a))), (3, .int (iZ (b)))] := hl
  have hc10 := hok.2.2.1
  have h01 := okI_01 a b
  have hi2 := hi
  unfold Rng at hi2
  refine lv_iload_n hx hb dX1_change_0 rfl (lv_at hl 1 rfl) ?_
  refine zr_if_lt (tgt := 20) hx hb dX1_change_1 (by decide) (by unfold Rng; omega) (fun c_1 => ?_) (fun c_1 => ?_)
  · refine zr_const hx hb dX1_change_20 ?_
    exact wr_zret hx hb hr hlocks hS (S, T) hP ⟨by unfold op_changeR; rw [if_neg (by omega)], by unfold op_changeS; rw [if_neg (by omega)]⟩ (Or.inl rfl) dX1_change_21
  · refine lv_iload_n hx hb dX1_change_4 rfl (lv_at hl 1 rfl) ?_
    refine lv_aload_n hx hb dX1_change_5 rfl (lv_at hl 0 rfl) ?_
    refine gX_count G hP dX1_change_6 ?_
    refine zr_icmp_ge (tgt := 20) hx hb dX1_change_9 (by decide) (by unfold Rng; omega) (fun c_9 => ?_) (fun c_9 => ?_)
    · refine zr_const hx hb dX1_change_20 ?_
      exact wr_zret hx hb hr hlocks hS (S, T) hP ⟨by unfold op_changeR; rw [if_neg (by omega)], by unfold op_changeS; rw [if_neg (by omega)]⟩ (Or.inl rfl) dX1_change_21
    · refine lv_iload_n hx hb dX1_change_12 rfl (lv_at hl 2 rfl) ?_
      refine lv_iload_n hx hb dX1_change_13 rfl (lv_at hl 3 rfl) ?_
      refine zr_callS (rest := []) (As := [.int (iZ (a)), .int (iZ (b))]) G.1 (mX_wordOk l D dB dI h S T a b ha hb1) (lw_S q68 q69 q21 q70) hd_X1_wordOk ⟨⟨rfl, rfl⟩, Nat.le_of_ble_eq_true rfl, Nat.le_of_ble_eq_true rfl⟩ G.2 hP hl.1 rfl (Nat.le_of_ble_eq_true rfl) dX1_change_14 ⟨Nat.zero_le _, Nat.zero_le _⟩ ?_
      refine zr_if_ne (tgt := 22) hx hb dX1_change_17 (by decide) (by unfold Rng; omega) (fun c_17 => ?_) (fun c_17 => ?_)
      · have hab := okI_1 (show pb_okI a b = 1 by omega)
        refine lv_aload_n hx hb dX1_change_22 rfl (lv_at hl 0 rfl) ?_
        refine gX_widths G hP dX1_change_23 ?_
        refine lv_iload_n hx hb dX1_change_26 rfl (lv_at hl 1 rfl) ?_
        refine lv_iload_n hx hb dX1_change_27 rfl (lv_at hl 2 rfl) ?_
        refine zr_i2b hx hb dX1_change_28 (by omega) ?_
        refine sX_widths G hDD hS hP (i.toNat) (by omega) (by omega) (by omega) dX1_change_29 (fun H locs hP hS => ?_)
        generalize e_Sa : Par.of S.w S.e S.c (updZ S.W (i.toNat) (a)) S.P = Sa at hP
        refine lv_aload_n hx hb dX1_change_30 rfl (lv_at hl 0 rfl) ?_
        refine gX_pens G hP dX1_change_31 ?_
        refine lv_iload_n hx hb dX1_change_34 rfl (lv_at hl 1 rfl) ?_
        refine lv_iload_n hx hb dX1_change_35 rfl (lv_at hl 3 rfl) ?_
        refine zr_i2b hx hb dX1_change_36 (by omega) ?_
        refine sX_pens G hDD hS hP (i.toNat) (by omega) (by omega) (by omega) dX1_change_37 (fun H locs hP hS => ?_)
        generalize e_Sb : Par.of Sa.w Sa.e Sa.c Sa.W (updZ Sa.P (i.toNat) (b)) = Sb at hP
        refine zr_const hx hb dX1_change_38 ?_
        exact wr_zret hx hb hr hlocks hS (Sb, T) hP ⟨by unfold op_changeR; rw [if_pos (by omega)], by subst e_Sb; subst e_Sa; unfold op_changeS; rw [if_pos (by omega)]; rfl⟩ (Or.inr rfl) dX1_change_39
      · refine zr_const hx hb dX1_change_20 ?_
        exact wr_zret hx hb hr hlocks hS (S, T) hP ⟨by unfold op_changeR; rw [if_neg (by omega)], by unfold op_changeS; rw [if_neg (by omega)]⟩ (Or.inl rfl) dX1_change_21
set_option maxHeartbeats 4000000 in
set_option maxRecDepth 100000 in
/-- setWidth(x) -/
theorem mX_setWidth (l : Launch) (D : va_G) (dB dI : ClassId) (h : Nat → Nat) (S : Par) (T : Pri) (x : Int) (hx1 : Rng x) : WRi l yX1_setWidth cX1_setWidth 2 (some .boolean) ({ frames := 0, cells := 0, slots := 0, locals := 0 }) D (tyA dB dI) (wXu dB dI h) (S, T) [.ref (h 0), .int (iZ (x))] (fun r u => r = iZ (op_widthR x) ∧ op_widthS S x = u.1) := by
  refine WRi.mk (by decide) (Nat.le_of_ble_eq_true rfl) (wXu_adr dB dI h _) ?_
  intro pr e s m below meth c ls A G hr hlocks hA hD hS hP hl
  have G : CX pr m c cX1_setWidth 2 s _ D dB dI := G
  have hDD : ∀ S T, va_D A (wX dB dI h S T) := fun S T => hD (S, T)
  have hP : va_P D vwCl (wX dB dI h S T) s.heap := hP
  have hx := G.1.1
  have hb := G.1.2.1
  have hl : lv_has ls 2 [(0, .ref (h 0)), (1, .int (iZ (x)))] := hl
  unfold Rng at hx1
  refine lv_iload_n hx hb dX1_setWidth_0 rfl (lv_at hl 1 rfl) ?_
  refine zr_const hx hb dX1_setWidth_1 ?_
  refine zr_icmp_lt (tgt := 11) hx hb dX1_setWidth_2 (by decide) (by unfold Rng; omega) (fun c_2 => ?_) (fun c_2 => ?_)
  · refine zr_const hx hb dX1_setWidth_11 ?_
    exact wr_zret hx hb hr hlocks hS (S, T) hP ⟨by unfold op_widthR; rw [if_neg (by omega)], by unfold op_widthS; rw [if_neg (by omega)]⟩ (Or.inl rfl) dX1_setWidth_12
  · refine lv_iload_n hx hb dX1_setWidth_5 rfl (lv_at hl 1 rfl) ?_
    refine zr_bipush hx hb dX1_setWidth_6 (by decide) ?_
    refine zr_icmp_le (tgt := 13) hx hb dX1_setWidth_8 (by decide) (by unfold Rng; omega) (fun c_8 => ?_) (fun c_8 => ?_)
    · refine lv_aload_n hx hb dX1_setWidth_13 rfl (lv_at hl 0 rfl) ?_
      refine lv_iload_n hx hb dX1_setWidth_14 rfl (lv_at hl 1 rfl) ?_
      refine pX_width (x := x) G hDD hS hP dX1_setWidth_15 (fun H locs hP hS => ?_)
      generalize e_S1 : Par.of (x) S.e S.c S.W S.P = S1 at hP
      refine zr_const hx hb dX1_setWidth_18 ?_
      exact wr_zret hx hb hr hlocks hS (S1, T) hP ⟨by unfold op_widthR; rw [if_pos (by omega)], by subst e_S1; unfold op_widthS; rw [if_pos (by omega)]⟩ (Or.inr rfl) dX1_setWidth_19
    · refine zr_const hx hb dX1_setWidth_11 ?_
      exact wr_zret hx hb hr hlocks hS (S, T) hP ⟨by unfold op_widthR; rw [if_neg (by omega)], by unfold op_widthS; rw [if_neg (by omega)]⟩ (Or.inl rfl) dX1_setWidth_12
set_option maxHeartbeats 4000000 in
set_option maxRecDepth 100000 in
/-- words() -/
theorem mX_words (l : Launch) (D : va_G) (dB dI : ClassId) (h : Nat → Nat) (S : Par) (T : Pri)  : WRi l yX1_words cX1_words 1 (some .int) ({ frames := 0, cells := 0, slots := 0, locals := 0 }) D (tyA dB dI) (wXu dB dI h) (S, T) [.ref (h 0)] (fun r u => r = iZ (S.c : Int) ∧ S = u.1) := by
  refine WRi.mk (by decide) (Nat.le_of_ble_eq_true rfl) (wXu_adr dB dI h _) ?_
  intro pr e s m below meth c ls A G hr hlocks hA hD hS hP hl
  have G : CX pr m c cX1_words 1 s _ D dB dI := G
  have hDD : ∀ S T, va_D A (wX dB dI h S T) := fun S T => hD (S, T)
  have hP : va_P D vwCl (wX dB dI h S T) s.heap := hP
  have hx := G.1.1
  have hb := G.1.2.1
  have hl : lv_has ls 1 [(0, .ref (h 0))] := hl
  refine lv_aload_n hx hb dX1_words_0 rfl (lv_at hl 0 rfl) ?_
  refine gX_count G hP dX1_words_1 ?_
  exact wr_ret hx hb hr hlocks hS (S, T) hP ⟨rfl, rfl⟩ dX1_words_4
end
section
/-! THE REFERENCE's reading methods, 1 -/
def op_isI (S : Par) (i : Int) : Int := if 0 ≤ i ∧ i < (S.c : Int) then 1 else 0
theorem isI_spec (S : Par) (i : Int) : (op_isI S i = 1 ∧ 0 ≤ i ∧ i < (S.c : Int)) ∨ (op_isI S i = 0 ∧ (i < 0 ∨ (S.c : Int) ≤ i)) := by
  unfold op_isI
  split <;> omega
theorem bi_1 {x : Bool} (h : (if x = true then (1 : Int) else 0) ≠ 0) : x = true := by
  cases x
  · exact absurd rfl h
  · rfl
theorem bi_0 {x : Bool} (h : (if x = true then (1 : Int) else 0) = 0) : ¬ x = true := by
  cases x
  · simp
  · simp at h
theorem bi_rng (x : Bool) : Rng (if x = true then (1 : Int) else 0) := by
  unfold Rng
  split <;> omega
theorem mb_bd {s : Par} (h : pb_Ok s) {b k : Nat} (hb : b ≤ k) (hk : k < s.c) : -1 ≤ ma_bad s b k ∧ ma_bad s b k ≤ 20000 := by
  have hl := th_len_bd h (p := b) (q := k + 1) (by omega)
  have hw := h.1
  have hc := h.2.2.1
  unfold ma_bad
  obtain ⟨d, hd0⟩ : ∃ d, d = s.w - pb_len s b (k + 1) := ⟨_, rfl⟩
  rw [← hd0]
  have hd := th_sq d
  split
  · omega
  · split
    · have := th_sq_le (d := d) (a := 60) (by omega) (by omega)
      omega
    · split
      · omega
      · have := th_sq_le (d := d) (a := 60) (by omega) (by omega)
        omega
theorem cs_skip {s : Par} {set k : Nat} {r : Int × Nat × Bool} (hC : ma_cs s set k = some r) (hn : ¬ (pb_bt set k = 1 ∨ k + 1 = s.c)) : ma_cs s set (k + 1) = some r := by
  simp only [ma_cs]
  rw [hC]
  show ma_st s set k r = some r
  unfold ma_st
  rw [if_neg hn]
theorem cs_take {s : Par} {set k b : Nat} {co : Int} {hi : Bool} (hC : ma_cs s set k = some (co, b, hi)) (hn : pb_bt set k = 1 ∨ k + 1 = s.c) (hb : 0 ≤ ma_bad s b k) : ma_cs s set (k + 1) = some (co + ma_bad s b k + (if k + 1 < s.c then s.P k else 0) + (if hi = true ∧ ma_here s k = true then s.e else 0), k + 1, ma_here s k) := by
  simp only [ma_cs]
  rw [hC]
  show ma_st s set k (co, b, hi) = _
  unfold ma_st
  rw [if_pos hn, if_neg (by show ¬ ma_bad s b k < 0; omega)]
theorem cs_none {s : Par} {set k b : Nat} {co : Int} {hi : Bool} (hk : k < s.c) (hC : ma_cs s set k = some (co, b, hi)) (hn : pb_bt set k = 1 ∨ k + 1 = s.c) (hb : ma_bad s b k < 0) : ma_co s set = -1000000 := by
  have h1 : ma_cs s set (k + 1) = none := by
    simp only [ma_cs]
    rw [hC]
    show ma_st s set k (co, b, hi) = none
    unfold ma_st
    rw [if_pos hn, if_pos (by show ma_bad s b k < 0; omega)]
  have h2 := th_cs_none s set (k + 1) h1 (s.c - (k + 1))
  rw [show k + 1 + (s.c - (k + 1)) = s.c by omega] at h2
  unfold ma_co
  rw [h2]
theorem pop_le (set : Nat) : ∀ k, ma_pop set k ≤ k := by
  intro k
  induction k with
  | zero => exact Nat.le_refl 0
  | succ k ih =>
    have := th_bt_lt set k
    simp only [ma_pop]
    omega
theorem cn_bd (s : Par) (set : Nat) : ma_cn s set ≤ 11 := by
  have := pop_le set 10
  unfold ma_cn
  split <;> omega
theorem sets_bd {s : Par} (h : pb_Ok s) : 1 ≤ ma_sets s ∧ ma_sets s ≤ 512 := by
  rw [th_sets]
  have h1 : 2 ^ (s.c - 1) ≤ 2 ^ 9 := Nat.pow_le_pow_right (by omega) (by have := h.2.2.1; omega)
  have h2 : 0 < 2 ^ (s.c - 1) := Nat.pow_pos (by omega)
  omega
theorem co_bd {s : Par} (h : pb_Ok s) (set : Nat) : ma_co s set = -1000000 ∨ (-400 ≤ ma_co s set ∧ ma_co s set ≤ 37400) := by
  rcases th_co h set with ⟨_, a⟩ | ⟨y, _, a, b, c⟩
  · exact Or.inl a
  · right
    omega
theorem val_bd {s : Par} (h : pb_Ok s) (K : Nat → Bool) (i : Nat) : ma_val s K i = -1000000 ∨ (-400 ≤ ma_val s K i ∧ ma_val s K i ≤ 37400) := by
  unfold ma_val
  split
  · exact co_bd h i
  · exact Or.inl rfl
theorem bs_bd {s : Par} (h : pb_Ok s) (K : Nat → Bool) (i : Nat) : ((ma_bs s K i).1 = -1) ∨ (0 ≤ (ma_bs s K i).1 ∧ (ma_bs s K i).1 < (i : Int) ∧ -400 ≤ (ma_bs s K i).2 ∧ (ma_bs s K i).2 ≤ 37400) := by
  rcases th_bs s K i with ⟨a, _⟩ | ⟨j, hj, a, b, c, _⟩
  · exact Or.inl a
  · right
    have := val_bd h K j
    omega
theorem best_bd {s : Par} (h : pb_Ok s) (K : Nat → Bool) : -1 ≤ ma_best s K ∧ ma_best s K < 512 := by
  have h1 := sets_bd h
  rcases bs_bd h K (ma_sets s) with a | a
  · unfold ma_best; omega
  · unfold ma_best; omega
abbrev bs_C (s : Par) (K : Nat → Bool) (i : Nat) : Prop := ma_val s K i ≠ -1000000 ∧ ((ma_bs s K i).1 < 0 ∨ ma_val s K i < (ma_bs s K i).2 ∨ (ma_val s K i = (ma_bs s K i).2 ∧ ma_bf s i (ma_bs s K i).1.toNat = true))
theorem bs_take {s : Par} {K : Nat → Bool} {i : Nat} (h : bs_C s K i) : ma_bs s K (i + 1) = ((i : Int), ma_val s K i) := by
  simp only [ma_bs]
  exact if_pos h
theorem bs_skip {s : Par} {K : Nat → Bool} {i : Nat} (h : ¬ bs_C s K i) : ma_bs s K (i + 1) = ma_bs s K i := by
  simp only [ma_bs]
  exact if_neg h
/-- what best takes, as the code says it -/
def bs_K (must never : Int32) (K : Nat → Bool) : Prop := ∀ set, set < 512 → (K set = true ↔ (must &&& (iZ ((set : Nat) : Int) ^^^ iZ (-1)) = 0 ∧ never &&& iZ ((set : Nat) : Int) = 0))
theorem bk_and0 (x : Int32) : iZ 0 &&& x = 0 := by rw [iZ_0]; simp
theorem bk_all : bs_K (iZ 0) (iZ 0) ma_all := fun set _ => ⟨fun _ => ⟨bk_and0 _, bk_and0 _⟩, fun _ => rfl⟩
theorem bk_must : ∀ i, i < 9 → ∀ set, set < 512 → (decide (pb_bt set i = 1) = true ↔ iZ (((2 ^ i : Nat)) : Int) &&& (iZ ((set : Nat) : Int) ^^^ iZ (-1)) = 0) := by decide +kernel
theorem bk_never : ∀ i, i < 9 → ∀ set, set < 512 → (decide (pb_bt set i = 0) = true ↔ iZ (((2 ^ i : Nat)) : Int) &&& iZ ((set : Nat) : Int) = 0) := by decide +kernel
theorem bk_brk {i : Nat} (hi : i < 9) : bs_K (iZ (((2 ^ i : Nat)) : Int)) (iZ 0) (fun set => decide (pb_bt set i = 1)) := fun set hs => ⟨fun h => ⟨(bk_must i hi set hs).mp h, bk_and0 _⟩, fun h => (bk_must i hi set hs).mpr h.1⟩
theorem bk_keep {i : Nat} (hi : i < 9) : bs_K (iZ 0) (iZ (((2 ^ i : Nat)) : Int)) (fun set => decide (pb_bt set i = 0)) := fun set hs => ⟨fun h => ⟨bk_and0 _, (bk_never i hi set hs).mp h⟩, fun h => (bk_never i hi set hs).mpr h.2⟩
theorem hd_X2_good : yX2_good.cls = RX2 ∧ yX2_good.cls ≠ "java/lang/invoke/MethodHandle" ∧ yX2_good.cls ≠ "java/lang/invoke/VarHandle" ∧ (parseMethodDescriptor yX2_good.desc).map (fun d => d.parameters.length) = some 2 := by decide +kernel
theorem hd_X2_is : yX2_is.cls = RX2 ∧ yX2_is.cls ≠ "java/lang/invoke/MethodHandle" ∧ yX2_is.cls ≠ "java/lang/invoke/VarHandle" ∧ (parseMethodDescriptor yX2_is.desc).map (fun d => d.parameters.length) = some 1 := by decide +kernel
theorem hd_X2_length : yX2_length.cls = RX2 ∧ yX2_length.cls ≠ "java/lang/invoke/MethodHandle" ∧ yX2_length.cls ≠ "java/lang/invoke/VarHandle" ∧ (parseMethodDescriptor yX2_length.desc).map (fun d => d.parameters.length) = some 2 := by decide +kernel
theorem hd_X2_badness : yX2_badness.cls = RX2 ∧ yX2_badness.cls ≠ "java/lang/invoke/MethodHandle" ∧ yX2_badness.cls ≠ "java/lang/invoke/VarHandle" ∧ (parseMethodDescriptor yX2_badness.desc).map (fun d => d.parameters.length) = some 2 := by decide +kernel
theorem hd_X2_costOf : yX2_costOf.cls = RX2 ∧ yX2_costOf.cls ≠ "java/lang/invoke/MethodHandle" ∧ yX2_costOf.cls ≠ "java/lang/invoke/VarHandle" ∧ (parseMethodDescriptor yX2_costOf.desc).map (fun d => d.parameters.length) = some 1 := by decide +kernel
theorem hd_X2_sets : yX2_sets.cls = RX2 ∧ yX2_sets.cls ≠ "java/lang/invoke/MethodHandle" ∧ yX2_sets.cls ≠ "java/lang/invoke/VarHandle" ∧ (parseMethodDescriptor yX2_sets.desc).map (fun d => d.parameters.length) = some 0 := by decide +kernel
theorem hd_X2_count : yX2_count.cls = RX2 ∧ yX2_count.cls ≠ "java/lang/invoke/MethodHandle" ∧ yX2_count.cls ≠ "java/lang/invoke/VarHandle" ∧ (parseMethodDescriptor yX2_count.desc).map (fun d => d.parameters.length) = some 1 := by decide +kernel
theorem hd_X2_before : yX2_before.cls = RX2 ∧ yX2_before.cls ≠ "java/lang/invoke/MethodHandle" ∧ yX2_before.cls ≠ "java/lang/invoke/VarHandle" ∧ (parseMethodDescriptor yX2_before.desc).map (fun d => d.parameters.length) = some 2 := by decide +kernel
theorem hd_X2_best : yX2_best.cls = RX2 ∧ yX2_best.cls ≠ "java/lang/invoke/MethodHandle" ∧ yX2_best.cls ≠ "java/lang/invoke/VarHandle" ∧ (parseMethodDescriptor yX2_best.desc).map (fun d => d.parameters.length) = some 2 := by decide +kernel
theorem hd_X2_cost : yX2_cost.cls = RX2 ∧ yX2_cost.cls ≠ "java/lang/invoke/MethodHandle" ∧ yX2_cost.cls ≠ "java/lang/invoke/VarHandle" ∧ (parseMethodDescriptor yX2_cost.desc).map (fun d => d.parameters.length) = some 0 := by decide +kernel
theorem hd_X2_endOf : yX2_endOf.cls = RX2 ∧ yX2_endOf.cls ≠ "java/lang/invoke/MethodHandle" ∧ yX2_endOf.cls ≠ "java/lang/invoke/VarHandle" ∧ (parseMethodDescriptor yX2_endOf.desc).map (fun d => d.parameters.length) = some 1 := by decide +kernel
set_option maxHeartbeats 4000000 in
set_option maxRecDepth 100000 in
/-- good -/
theorem mM_good (l : Launch) (D : va_G) (dB dI : ClassId) (h : Nat → Nat) (S : Par) (a b : Int) (ha : Rng a) (hb0 : Rng b) : RO l yX2_good cX2_good 3 (some .boolean) ({ frames := 0, cells := 0, slots := 0, locals := 0 }) D (tyA dB dI) (wM dI h S) [.ref (h 0), .int (iZ (a)), .int (iZ (b))] (iZ (pb_okI a b)) := by
  refine RO.mk (by decide) (Nat.le_of_ble_eq_true rfl) ?_
  intro pr e s m below meth c ls G hr hlocks hP hl
  have G : CM pr m c cX2_good 3 s _ D dB dI := G
  have hx := G.1.1
  have hb := G.1.2.1
  have hl : lv_has ls 3 [(0, .ref (h 0)), (1, .int (iZ (a))), (2, .int (iZ (b)))] := hl
  unfold Rng at ha hb0
  refine lv_iload_n hx hb dX2_good_0 rfl (lv_at hl 1 rfl) ?_
  refine zr_const hx hb dX2_good_1 ?_
  refine zr_icmp_lt (tgt := 27) hx hb dX2_good_2 (by decide) (by unfold Rng; omega) (fun c_2 => ?_) (fun c_2 => ?_)
  · refine zr_const hx hb dX2_good_27 ?_
    exact zr_zret hx hb hr hlocks (by rw [show pb_okI a b = 0 from by unfold pb_okI; rw [if_neg (by omega)]]) (Or.inl rfl) dX2_good_28
  · refine lv_iload_n hx hb dX2_good_5 rfl (lv_at hl 1 rfl) ?_
    refine zr_bipush hx hb dX2_good_6 (by decide) ?_
    refine zr_icmp_gt (tgt := 27) hx hb dX2_good_8 (by decide) (by unfold Rng; omega) (fun c_8 => ?_) (fun c_8 => ?_)
    · refine zr_const hx hb dX2_good_27 ?_
      exact zr_zret hx hb hr hlocks (by rw [show pb_okI a b = 0 from by unfold pb_okI; rw [if_neg (by omega)]]) (Or.inl rfl) dX2_good_28
    · refine lv_iload_n hx hb dX2_good_11 rfl (lv_at hl 2 rfl) ?_
      refine zr_bipush hx hb dX2_good_12 (by decide) ?_
      refine zr_icmp_lt (tgt := 27) hx hb dX2_good_14 (by decide) (by unfold Rng; omega) (fun c_14 => ?_) (fun c_14 => ?_)
      · refine zr_const hx hb dX2_good_27 ?_
        exact zr_zret hx hb hr hlocks (by rw [show pb_okI a b = 0 from by unfold pb_okI; rw [if_neg (by omega)]]) (Or.inl rfl) dX2_good_28
      · refine lv_iload_n hx hb dX2_good_17 rfl (lv_at hl 2 rfl) ?_
        refine zr_bipush hx hb dX2_good_18 (by decide) ?_
        refine zr_icmp_gt (tgt := 27) hx hb dX2_good_20 (by decide) (by unfold Rng; omega) (fun c_20 => ?_) (fun c_20 => ?_)
        · refine zr_const hx hb dX2_good_27 ?_
          exact zr_zret hx hb hr hlocks (by rw [show pb_okI a b = 0 from by unfold pb_okI; rw [if_neg (by omega)]]) (Or.inl rfl) dX2_good_28
        · refine zr_const hx hb dX2_good_23 ?_
          refine lv_goto (tgt := 28) hx hb dX2_good_24 (by decide) ?_
          exact zr_zret hx hb hr hlocks (by rw [show pb_okI a b = 1 from by unfold pb_okI; rw [if_pos (by omega)]]) (Or.inr rfl) dX2_good_28
set_option maxHeartbeats 4000000 in
set_option maxRecDepth 100000 in
/-- is -/
theorem mM_is (l : Launch) (D : va_G) (dB dI : ClassId) (h : Nat → Nat) (S : Par) (hok : pb_Ok S) (i : Int) (hi : Rng i) : RO l yX2_is cX2_is 2 (some .boolean) ({ frames := 0, cells := 0, slots := 0, locals := 0 }) D (tyA dB dI) (wM dI h S) [.ref (h 0), .int (iZ (i))] (iZ (op_isI S i)) := by
  refine RO.mk (by decide) (Nat.le_of_ble_eq_true rfl) ?_
  intro pr e s m below meth c ls G hr hlocks hP hl
  have G : CM pr m c cX2_is 2 s _ D dB dI := G
  have hx := G.1.1
  have hb := G.1.2.1
  have hl : lv_has ls 2 [(0, .ref (h 0)), (1, .int (iZ (i)))] := hl
  unfold Rng at hi
  have hc10 := hok.2.2.1
  refine lv_iload_n hx hb dX2_is_0 rfl (lv_at hl 1 rfl) ?_
  refine zr_if_lt (tgt := 16) hx hb dX2_is_1 (by decide) (by unfold Rng; omega) (fun c_1 => ?_) (fun c_1 => ?_)
  · refine zr_const hx hb dX2_is_16 ?_
    exact zr_zret hx hb hr hlocks (by unfold op_isI; rw [if_neg (by omega)]) (Or.inl rfl) dX2_is_17
  · refine lv_iload_n hx hb dX2_is_4 rfl (lv_at hl 1 rfl) ?_
    refine lv_aload_n hx hb dX2_is_5 rfl (lv_at hl 0 rfl) ?_
    refine gM_size G hP dX2_is_6 ?_
    refine zr_icmp_ge (tgt := 16) hx hb dX2_is_9 (by decide) (by unfold Rng; omega) (fun c_9 => ?_) (fun c_9 => ?_)
    · refine zr_const hx hb dX2_is_16 ?_
      exact zr_zret hx hb hr hlocks (by unfold op_isI; rw [if_neg (by omega)]) (Or.inl rfl) dX2_is_17
    · refine zr_const hx hb dX2_is_12 ?_
      refine lv_goto (tgt := 17) hx hb dX2_is_13 (by decide) ?_
      exact zr_zret hx hb hr hlocks (by unfold op_isI; rw [if_pos (by omega)]) (Or.inr rfl) dX2_is_17
set_option maxHeartbeats 4000000 in
set_option maxRecDepth 100000 in
/-- length -/
theorem mM_length (l : Launch) (D : va_G) (dB dI : ClassId) (h : Nat → Nat) (S : Par) (p j : Nat) (hpj : p ≤ j + 1) (hj : j < 10) : RO l yX2_length cX2_length 5 (some .int) ({ frames := 0, cells := 0, slots := 0, locals := 0 }) D (tyA dB dI) (wM dI h S) [.ref (h 0), .int (iZ ((p : Int))), .int (iZ ((j : Int)))] (iZ (pb_len S p (j + 1))) := by
  refine RO.mk (by decide) (Nat.le_of_ble_eq_true rfl) ?_
  intro pr e s m below meth c ls G hr hlocks hP hl
  have G : CM pr m c cX2_length 5 s _ D dB dI := G
  have hx := G.1.1
  have hb := G.1.2.1
  have hl : lv_has ls 5 [(0, .ref (h 0)), (1, .int (iZ ((p : Int)))), (2, .int (iZ ((j : Int))))] := hl
  refine zr_const hx hb dX2_length_0 ?_
  refine lv_iload_n hx hb dX2_length_1 rfl (lv_at hl 2 rfl) ?_
  refine lv_iload_n hx hb dX2_length_2 rfl (lv_at hl 1 rfl) ?_
  refine zr_sub hx hb dX2_length_3 ?_
  refine zr_mul hx hb dX2_length_4 ?_
  refine zr_eq (y := 2 * ((j : Int) - (p : Int)) + pb_sm S.W p (p - p)) (by rw [Nat.sub_self]; simp [pb_sm]) ?_
  refine lv_istore_n (lv' := [(3, .int (iZ (2 * ((j : Int) - (p : Int)) + pb_sm S.W p (p - p)))), (0, .ref (h 0)), (1, .int (iZ ((p : Int)))), (2, .int (iZ ((j : Int))))]) hx hb dX2_length_5 rfl hl (by decide) rfl (fun ls hl => ?_)
  refine lv_iload_n hx hb dX2_length_6 rfl (lv_at hl 2 rfl) ?_
  refine lv_istore (lv' := [(4, .int (iZ ((p : Int)))), (3, .int (iZ (2 * ((j : Int) - (p : Int)) + pb_sm S.W p (p - p)))), (0, .ref (h 0)), (1, .int (iZ ((p : Int)))), (2, .int (iZ ((j : Int))))]) hx hb dX2_length_7 hl (by decide) rfl (fun ls hl => ?_)
  refine zr_loop (pc := 9) (nL := 5) (j + 1) (fun i => [(4, .int (iZ ((i : Nat) : Int))), (3, .int (iZ (2 * ((j : Int) - (p : Int)) + pb_sm S.W p (i - p)))), (0, .ref (h 0)), (1, .int (iZ (p : Int))), (2, .int (iZ (j : Int)))]) (fun i => p ≤ i) ?_ p ls hpj (Nat.le_refl p) (lv_sub hl [0, 1, 2, 3, 4] rfl)
  intro i ls hi hpi hl ih
  have hl : lv_has ls 5 [(4, .int (iZ ((i : Nat) : Int))), (3, .int (iZ (2 * ((j : Int) - (p : Int)) + pb_sm S.W p (i - p)))), (0, .ref (h 0)), (1, .int (iZ (p : Int))), (2, .int (iZ (j : Int)))] := hl
  refine lv_iload hx hb dX2_length_9 (lv_at hl 0 rfl) ?_
  refine lv_iload_n hx hb dX2_length_11 rfl (lv_at hl 4 rfl) ?_
  refine zr_icmp_gt (tgt := 31) hx hb dX2_length_12 (by decide) (by unfold Rng; omega) (fun c_12 => ?_) (fun c_12 => ?_)
  · have hij : i = j + 1 := by omega
    subst hij
    refine lv_iload_n hx hb dX2_length_31 rfl (lv_at hl 1 rfl) ?_
    exact zr_ret hx hb hr hlocks (by unfold pb_len; congr 1; omega) dX2_length_32
  · refine lv_iload_n hx hb dX2_length_15 rfl (lv_at hl 1 rfl) ?_
    refine lv_aload_n hx hb dX2_length_16 rfl (lv_at hl 2 rfl) ?_
    refine gM_wide G hP dX2_length_17 ?_
    refine lv_iload hx hb dX2_length_20 (lv_at hl 0 rfl) ?_
    refine aM_wide G hP (i) (by omega) (by omega) dX2_length_22 ?_
    refine zr_add hx hb dX2_length_23 ?_
    refine zr_eq (y := 2 * ((j : Int) - (p : Int)) + pb_sm S.W p (i + 1 - p)) (by rw [show i + 1 - p = (i - p) + 1 by omega]; simp only [pb_sm]; rw [show p + (i - p) = i by omega]; omega) ?_
    refine lv_istore_n (lv' := [(3, .int (iZ (2 * ((j : Int) - (p : Int)) + pb_sm S.W p (i + 1 - p)))), (4, .int (iZ (((i : Nat) : Int)))), (0, .ref (h 0)), (1, .int (iZ ((p : Int)))), (2, .int (iZ ((j : Int))))]) hx hb dX2_length_24 rfl hl (by decide) rfl (fun ls hl => ?_)
    refine zr_incN (lv' := [(4, .int (iZ (((i + 1 : Nat) : Int)))), (3, .int (iZ (2 * ((j : Int) - (p : Int)) + pb_sm S.W p (i + 1 - p)))), (0, .ref (h 0)), (1, .int (iZ ((p : Int)))), (2, .int (iZ ((j : Int))))]) hx hb dX2_length_25 hl 1 rfl (by decide) rfl (fun ls hl => ?_)
    refine lv_goto (tgt := 9) hx hb dX2_length_28 (by decide) ?_
    exact ih ls (by omega) (by omega) (lv_sub hl [0, 1, 2, 3, 4] rfl)
set_option maxHeartbeats 4000000 in
set_option maxRecDepth 100000 in
/-- badness -/
theorem mM_badness (l : Launch) (D : va_G) (dB dI : ClassId) (h : Nat → Nat) (S : Par) (hok : pb_Ok S) (p j : Nat) (hpj : p ≤ j) (hj : j < S.c) : RO l yX2_badness cX2_badness 4 (some .int) ({ frames := 1, cells := 0, slots := 0, locals := 24 }) D (tyA dB dI) (wM dI h S) [.ref (h 0), .int (iZ ((p : Int))), .int (iZ ((j : Int)))] (iZ (ma_bad S p j)) := by
  refine RO.mk (by decide) (Nat.le_of_ble_eq_true rfl) ?_
  intro pr e s m below meth c ls G hr hlocks hP hl
  have G : CM pr m c cX2_badness 4 s _ D dB dI := G
  have hx := G.1.1
  have hb := G.1.2.1
  have hl : lv_has ls 4 [(0, .ref (h 0)), (1, .int (iZ ((p : Int)))), (2, .int (iZ ((j : Int))))] := hl
  have hc10 := hok.2.2.1
  have hlen := th_len_bd hok (p := p) (q := j + 1) (by omega)
  have hw := hok.1
  refine lv_aload_n hx hb dX2_badness_0 rfl (lv_at hl 0 rfl) ?_
  refine gM_room G hP dX2_badness_1 ?_
  refine lv_aload_n hx hb dX2_badness_4 rfl (lv_at hl 0 rfl) ?_
  refine lv_iload_n hx hb dX2_badness_5 rfl (lv_at hl 1 rfl) ?_
  refine lv_iload_n hx hb dX2_badness_6 rfl (lv_at hl 2 rfl) ?_
  refine zr_callV (rest := [.int (iZ (S.w))]) (As := [.int (iZ ((p : Int))), .int (iZ ((j : Int)))]) G.1 (mM_length l D dB dI h S p j (by omega) (by omega)) (lw_V q243 q245 qs17 q22 q246) hd_X2_length ⟨⟨rfl, rfl⟩, Nat.le_of_ble_eq_true rfl, Nat.le_of_ble_eq_true rfl⟩ G.2 hP (wM_0 ..) rfl rfl hl.1 rfl (Nat.le_of_ble_eq_true rfl) dX2_badness_7 ⟨Nat.zero_le _, Nat.zero_le _⟩ ?_
  refine zr_sub hx hb dX2_badness_10 ?_
  refine zr_name (fun d e_d => ?_)
  refine lv_istore_n (lv' := [(3, .int (iZ (d))), (0, .ref (h 0)), (1, .int (iZ ((p : Int)))), (2, .int (iZ ((j : Int))))]) hx hb dX2_badness_11 rfl hl (by decide) rfl (fun ls hl => ?_)
  refine lv_iload_n hx hb dX2_badness_12 rfl (lv_at hl 0 rfl) ?_
  refine lv_iload_n hx hb dX2_badness_13 rfl (lv_at hl 2 rfl) ?_
  refine lv_iload_n hx hb dX2_badness_14 rfl (lv_at hl 3 rfl) ?_
  refine zr_sub hx hb dX2_badness_15 ?_
  refine zr_icmp_ge (tgt := 21) hx hb dX2_badness_16 (by decide) (by unfold Rng; omega) (fun c_16 => ?_) (fun c_16 => ?_)
  · refine lv_iload_n hx hb dX2_badness_21 rfl (lv_at hl 0 rfl) ?_
    refine zr_if_ge (tgt := 33) hx hb dX2_badness_22 (by decide) (by unfold Rng; omega) (fun c_22 => ?_) (fun c_22 => ?_)
    · refine lv_iload_n hx hb dX2_badness_33 rfl (lv_at hl 3 rfl) ?_
      refine lv_aload_n hx hb dX2_badness_34 rfl (lv_at hl 1 rfl) ?_
      refine gM_size G hP dX2_badness_35 ?_
      refine zr_const hx hb dX2_badness_38 ?_
      refine zr_sub hx hb dX2_badness_39 ?_
      refine zr_icmp_ne (tgt := 47) hx hb dX2_badness_40 (by decide) (by unfold Rng; omega) (fun c_40 => ?_) (fun c_40 => ?_)
      · refine lv_iload_n hx hb dX2_badness_47 rfl (lv_at hl 0 rfl) ?_
        refine lv_iload_n hx hb dX2_badness_48 rfl (lv_at hl 0 rfl) ?_
        refine zr_mul hx hb dX2_badness_49 ?_
        exact zr_ret hx hb hr hlocks (by unfold ma_bad; rw [← e_d, if_neg (by omega), if_neg (by omega), if_neg (by omega)]) dX2_badness_50
      · refine zr_const hx hb dX2_badness_43 ?_
        refine lv_goto (tgt := 50) hx hb dX2_badness_44 (by decide) ?_
        exact zr_ret hx hb hr hlocks (by unfold ma_bad; rw [← e_d, if_neg (by omega), if_neg (by omega), if_pos (by omega)]) dX2_badness_50
    · refine lv_iload_n hx hb dX2_badness_25 rfl (lv_at hl 0 rfl) ?_
      refine lv_iload_n hx hb dX2_badness_26 rfl (lv_at hl 0 rfl) ?_
      refine zr_mul hx hb dX2_badness_27 ?_
      refine zr_const hx hb dX2_badness_28 ?_
      refine zr_mul hx hb dX2_badness_29 ?_
      refine lv_goto (tgt := 50) hx hb dX2_badness_30 (by decide) ?_
      exact zr_ret hx hb hr hlocks (by unfold ma_bad; rw [← e_d, if_neg (by omega), if_pos (by omega)]) dX2_badness_50
  · refine zr_const hx hb dX2_badness_19 ?_
    exact zr_ret hx hb hr hlocks (by unfold ma_bad; rw [← e_d, if_pos (by omega)]) dX2_badness_20
set_option maxHeartbeats 4000000 in
set_option maxRecDepth 100000 in
/-- sets -/
theorem mM_sets (l : Launch) (D : va_G) (dB dI : ClassId) (h : Nat → Nat) (S : Par) (hok : pb_Ok S) : RO l yX2_sets cX2_sets 1 (some .int) ({ frames := 0, cells := 0, slots := 0, locals := 0 }) D (tyA dB dI) (wM dI h S) [.ref (h 0)] (iZ (((ma_sets S : Nat) : Int))) := by
  refine RO.mk (by decide) (Nat.le_of_ble_eq_true rfl) ?_
  intro pr e s m below meth c ls G hr hlocks hP hl
  have G : CM pr m c cX2_sets 1 s _ D dB dI := G
  have hx := G.1.1
  have hb := G.1.2.1
  have hl : lv_has ls 1 [(0, .ref (h 0))] := hl
  have hc10 := hok.2.2.1
  refine lv_aload_n hx hb dX2_sets_0 rfl (lv_at hl 0 rfl) ?_
  refine gM_size G hP dX2_sets_1 ?_
  refine zr_if_ne (tgt := 11) hx hb dX2_sets_4 (by decide) (by unfold Rng; omega) (fun c_4 => ?_) (fun c_4 => ?_)
  · refine zr_const hx hb dX2_sets_11 ?_
    refine lv_aload_n hx hb dX2_sets_12 rfl (lv_at hl 0 rfl) ?_
    refine gM_size G hP dX2_sets_13 ?_
    refine zr_const hx hb dX2_sets_16 ?_
    refine zr_sub hx hb dX2_sets_17 ?_
    refine lv_ishl hx hb dX2_sets_18 ?_
    refine zr_top (y := iZ (((2 ^ (S.c - 1) : Nat) : Int))) (by rw [show (S.c : Int) - 1 = ((S.c - 1 : Nat) : Int) by omega]; exact iZ_shl _ (by omega)) ?_
    exact zr_ret hx hb hr hlocks (by unfold ma_sets; rw [if_neg (by omega)]) dX2_sets_19
  · refine zr_const hx hb dX2_sets_7 ?_
    refine lv_goto (tgt := 19) hx hb dX2_sets_8 (by decide) ?_
    exact zr_ret hx hb hr hlocks (by unfold ma_sets; rw [if_pos (by omega)]; rfl) dX2_sets_19
set_option maxHeartbeats 4000000 in
set_option maxRecDepth 100000 in
/-- count -/
theorem mM_count (l : Launch) (D : va_G) (dB dI : ClassId) (h : Nat → Nat) (S : Par) (hok : pb_Ok S) (set : Nat) (hs : set < 512) : RO l yX2_count cX2_count 4 (some .int) ({ frames := 0, cells := 0, slots := 0, locals := 0 }) D (tyA dB dI) (wM dI h S) [.ref (h 0), .int (iZ (((set : Nat) : Int)))] (iZ (((ma_cn S set : Nat) : Int))) := by
  refine RO.mk (by decide) (Nat.le_of_ble_eq_true rfl) ?_
  intro pr e s m below meth c ls G hr hlocks hP hl
  have G : CM pr m c cX2_count 4 s _ D dB dI := G
  have hx := G.1.1
  have hb := G.1.2.1
  have hl : lv_has ls 4 [(0, .ref (h 0)), (1, .int (iZ (((set : Nat) : Int))))] := hl
  have hc10 := hok.2.2.1
  obtain ⟨c0, hc0⟩ : ∃ c0 : Nat, c0 = if 0 < S.c then 1 else 0 := ⟨_, rfl⟩
  refine zr_join (α := Int) (fun x => F0 m 12 ls (.int (iZ x) :: [])) (fun x => x = ((c0 : Nat) : Int)) (fun J => ?_) (fun n0 e_n0 => ?_)
  · refine lv_aload_n hx hb dX2_count_0 rfl (lv_at hl 0 rfl) ?_
    refine gM_size G hP dX2_count_1 ?_
    refine zr_if_le (tgt := 11) hx hb dX2_count_4 (by decide) (by unfold Rng; omega) (fun c_4 => ?_) (fun c_4 => ?_)
    · refine zr_const hx hb dX2_count_11 ?_
      exact J _ (by rw [hc0, if_neg (by omega)]; rfl)
    · refine zr_const hx hb dX2_count_7 ?_
      refine lv_goto (tgt := 12) hx hb dX2_count_8 (by decide) ?_
      exact J _ (by rw [hc0, if_pos (by omega)]; rfl)
  · refine zr_eq (y := ((c0 + ma_pop set 0 : Nat) : Int)) (e_n0) ?_
    refine lv_istore_n (lv' := [(2, .int (iZ (((c0 + ma_pop set 0 : Nat) : Int)))), (0, .ref (h 0)), (1, .int (iZ (((set : Nat) : Int))))]) hx hb dX2_count_12 rfl hl (by decide) rfl (fun ls hl => ?_)
    refine zr_const hx hb dX2_count_13 ?_
    refine zr_eq (y := ((0 : Nat) : Int)) (rfl) ?_
    refine lv_istore_n (lv' := [(3, .int (iZ (((0 : Nat) : Int)))), (2, .int (iZ (((c0 + ma_pop set 0 : Nat) : Int)))), (0, .ref (h 0)), (1, .int (iZ (((set : Nat) : Int))))]) hx hb dX2_count_14 rfl hl (by decide) rfl (fun ls hl => ?_)
    refine zr_loop (pc := 15) (nL := 4) 10 (fun k => [(3, .int (iZ ((k : Nat) : Int))), (2, .int (iZ ((c0 + ma_pop set (k) : Nat) : Int))), (0, .ref (h 0)), (1, .int (iZ ((set : Nat) : Int)))]) (fun _ => True) ?_ 0 ls (Nat.zero_le _) trivial (lv_sub hl [0, 1, 2, 3] rfl)
    intro k ls hk _ hl ih
    have hl : lv_has ls 4 [(3, .int (iZ ((k : Nat) : Int))), (2, .int (iZ ((c0 + ma_pop set (k) : Nat) : Int))), (0, .ref (h 0)), (1, .int (iZ ((set : Nat) : Int)))] := hl
    refine lv_iload_n hx hb dX2_count_15 rfl (lv_at hl 0 rfl) ?_
    refine zr_bipush hx hb dX2_count_16 (by decide) ?_
    refine zr_icmp_ge (tgt := 35) hx hb dX2_count_18 (by decide) (by unfold Rng; omega) (fun c_18 => ?_) (fun c_18 => ?_)
    · have hk10 : k = 10 := by omega
      subst hk10
      refine lv_iload_n hx hb dX2_count_35 rfl (lv_at hl 1 rfl) ?_
      exact zr_ret hx hb hr hlocks (by unfold ma_cn; rw [← hc0]) dX2_count_36
    · refine lv_iload_n hx hb dX2_count_21 rfl (lv_at hl 1 rfl) ?_
      refine lv_iload_n hx hb dX2_count_22 rfl (lv_at hl 3 rfl) ?_
      refine lv_iload_n hx hb dX2_count_23 rfl (lv_at hl 0 rfl) ?_
      refine lv_ishr hx hb dX2_count_24 ?_
      refine zr_const hx hb dX2_count_25 ?_
      refine lv_iand hx hb dX2_count_26 ?_
      refine zr_top (y := iZ (((pb_bt (set) (k) : Nat) : Int))) (iZ_bit _ (by omega) _ (by omega)) ?_
      refine zr_add hx hb dX2_count_27 ?_
      refine zr_eq (y := ((c0 + ma_pop set (k + 1) : Nat) : Int)) (by simp only [ma_pop]; omega) ?_
      refine lv_istore_n (lv' := [(2, .int (iZ (((c0 + ma_pop set (k + 1) : Nat) : Int)))), (3, .int (iZ (((k : Nat) : Int)))), (0, .ref (h 0)), (1, .int (iZ (((set : Nat) : Int))))]) hx hb dX2_count_28 rfl hl (by decide) rfl (fun ls hl => ?_)
      refine zr_incN (lv' := [(3, .int (iZ (((k + 1 : Nat) : Int)))), (2, .int (iZ (((c0 + ma_pop set (k + 1) : Nat) : Int)))), (0, .ref (h 0)), (1, .int (iZ (((set : Nat) : Int))))]) hx hb dX2_count_29 hl 1 rfl (by decide) rfl (fun ls hl => ?_)
      refine lv_goto (tgt := 15) hx hb dX2_count_32 (by decide) ?_
      exact ih ls (by omega) trivial (lv_sub hl [0, 1, 2, 3] rfl)
set_option maxHeartbeats 4000000 in
set_option maxRecDepth 100000 in
/-- costOf -/
theorem mM_costOf (l : Launch) (D : va_G) (dB dI : ClassId) (h : Nat → Nat) (S : Par) (hok : pb_Ok S) (set : Nat) (hs : set < 512) : RO l yX2_costOf cX2_costOf 8 (some .int) ({ frames := 2, cells := 0, slots := 0, locals := 47 }) D (tyA dB dI) (wM dI h S) [.ref (h 0), .int (iZ (((set : Nat) : Int)))] (iZ (ma_co S set)) := by
  refine RO.mk (by decide) (Nat.le_of_ble_eq_true rfl) ?_
  intro pr e s m below meth c ls G hr hlocks hP hl
  have G : CM pr m c cX2_costOf 8 s _ D dB dI := G
  have hx := G.1.1
  have hb := G.1.2.1
  have hl : lv_has ls 8 [(0, .ref (h 0)), (1, .int (iZ (((set : Nat) : Int))))] := hl
  have hc10 := hok.2.2.1
  refine zr_const hx hb dX2_costOf_0 ?_
  refine lv_istore_n (lv' := [(2, .int (iZ (0))), (0, .ref (h 0)), (1, .int (iZ (((set : Nat) : Int))))]) hx hb dX2_costOf_1 rfl hl (by decide) rfl (fun ls hl => ?_)
  refine zr_const hx hb dX2_costOf_2 ?_
  refine zr_eq (y := ((0 : Nat) : Int)) (rfl) ?_
  refine lv_istore_n (lv' := [(3, .int (iZ (((0 : Nat) : Int)))), (2, .int (iZ (0))), (0, .ref (h 0)), (1, .int (iZ (((set : Nat) : Int))))]) hx hb dX2_costOf_3 rfl hl (by decide) rfl (fun ls hl => ?_)
  refine zr_const hx hb dX2_costOf_4 ?_
  refine zr_eq (y := if false = true then 1 else 0) (rfl) ?_
  refine lv_istore (lv' := [(4, .int (iZ (if false = true then 1 else 0))), (3, .int (iZ (((0 : Nat) : Int)))), (2, .int (iZ (0))), (0, .ref (h 0)), (1, .int (iZ (((set : Nat) : Int))))]) hx hb dX2_costOf_5 hl (by decide) rfl (fun ls hl => ?_)
  refine zr_const hx hb dX2_costOf_7 ?_
  refine zr_eq (y := ((0 : Nat) : Int)) (rfl) ?_
  refine lv_istore (lv' := [(5, .int (iZ (((0 : Nat) : Int)))), (4, .int (iZ (if false = true then 1 else 0))), (3, .int (iZ (((0 : Nat) : Int)))), (2, .int (iZ (0))), (0, .ref (h 0)), (1, .int (iZ (((set : Nat) : Int))))]) hx hb dX2_costOf_8 hl (by decide) rfl (fun ls hl => ?_)
  refine zr_loopA (pc := 10) (nL := 8) (α := Int × Nat × Bool) S.c (fun k r => [(5, .int (iZ ((k : Nat) : Int))), (2, .int (iZ (r.1))), (3, .int (iZ ((r.2.1 : Nat) : Int))), (4, .int (iZ (if r.2.2 = true then 1 else 0))), (0, .ref (h 0)), (1, .int (iZ ((set : Nat) : Int)))]) (fun k r => ma_cs S set k = some r ∧ r.2.1 ≤ k) ?_ 0 (0, 0, false) ls (Nat.zero_le _) ⟨rfl, Nat.le_refl 0⟩ (lv_sub hl [0, 3, 2, 1, 4, 5] rfl)
  rintro k ⟨co, b, hi⟩ ls hk ⟨hC, hbk⟩ hl ih
  have hbk : b ≤ k := hbk
  have hl : lv_has ls 8 [(5, .int (iZ ((k : Nat) : Int))), (2, .int (iZ (co))), (3, .int (iZ ((b : Nat) : Int))), (4, .int (iZ (if hi = true then 1 else 0))), (0, .ref (h 0)), (1, .int (iZ ((set : Nat) : Int)))] := hl
  have hbt := th_bt_lt set k
  refine lv_iload hx hb dX2_costOf_10 (lv_at hl 0 rfl) ?_
  refine lv_aload_n hx hb dX2_costOf_12 rfl (lv_at hl 4 rfl) ?_
  refine gM_size G hP dX2_costOf_13 ?_
  refine zr_icmp_ge (tgt := 147) hx hb dX2_costOf_16 (by decide) (by unfold Rng; omega) (fun c_16 => ?_) (fun c_16 => ?_)
  · have hkc : k = S.c := by omega
    refine lv_iload_n hx hb dX2_costOf_147 rfl (lv_at hl 1 rfl) ?_
    exact zr_ret hx hb hr hlocks (by rw [show ma_co S set = co from by unfold ma_co; rw [← hkc, hC]]) dX2_costOf_148
  · refine zr_join (α := Unit) (fun _ => F0 m 40 ls []) (fun _ => pb_bt set k = 1 ∨ k + 1 = S.c) (fun J => ?_) (fun _ hj => ?_)
    · refine lv_iload_n hx hb dX2_costOf_19 rfl (lv_at hl 5 rfl) ?_
      refine lv_iload hx hb dX2_costOf_20 (lv_at hl 0 rfl) ?_
      refine lv_ishr hx hb dX2_costOf_22 ?_
      refine zr_const hx hb dX2_costOf_23 ?_
      refine lv_iand hx hb dX2_costOf_24 ?_
      refine zr_top (y := iZ (((pb_bt (set) (k) : Nat) : Int))) (iZ_bit _ (by omega) _ (by omega)) ?_
      refine zr_const hx hb dX2_costOf_25 ?_
      refine zr_icmp_eq (tgt := 40) hx hb dX2_costOf_26 (by decide) (by unfold Rng; omega) (fun c_26 => ?_) (fun c_26 => ?_)
      · exact J () (by omega)
      · refine lv_iload hx hb dX2_costOf_29 (lv_at hl 0 rfl) ?_
        refine lv_aload_n hx hb dX2_costOf_31 rfl (lv_at hl 4 rfl) ?_
        refine gM_size G hP dX2_costOf_32 ?_
        refine zr_const hx hb dX2_costOf_35 ?_
        refine zr_sub hx hb dX2_costOf_36 ?_
        refine zr_icmp_ne (tgt := 141) hx hb dX2_costOf_37 (by decide) (by unfold Rng; omega) (fun c_37 => ?_) (fun c_37 => ?_)
        · refine zr_incN (lv' := [(5, .int (iZ (((k + 1 : Nat) : Int)))), (2, .int (iZ (co))), (3, .int (iZ (((b : Nat) : Int)))), (4, .int (iZ (if hi = true then 1 else 0))), (0, .ref (h 0)), (1, .int (iZ (((set : Nat) : Int))))]) hx hb dX2_costOf_141 hl 0 rfl (by decide) rfl (fun ls hl => ?_)
          refine lv_goto (tgt := 10) hx hb dX2_costOf_144 (by decide) ?_
          exact ih (co, b, hi) ls (by omega) ⟨cs_skip hC (by omega), by show b ≤ k + 1; omega⟩ (lv_sub hl [0, 1, 2, 3, 4, 5] rfl)
        · exact J () (by omega)
    · refine lv_aload_n hx hb dX2_costOf_40 rfl (lv_at hl 4 rfl) ?_
      refine lv_iload_n hx hb dX2_costOf_41 rfl (lv_at hl 2 rfl) ?_
      refine lv_iload hx hb dX2_costOf_42 (lv_at hl 0 rfl) ?_
      refine zr_callV (rest := []) (As := [.int (iZ (((b : Nat) : Int))), .int (iZ (((k : Nat) : Int)))]) G.1 (mM_badness l D dB dI h S hok b k (by omega) (by omega)) (lw_V q239 q241 qs16 q22 q242) hd_X2_badness ⟨⟨rfl, rfl⟩, Nat.le_of_ble_eq_true rfl, Nat.le_of_ble_eq_true rfl⟩ G.2 hP (wM_0 ..) rfl rfl hl.1 rfl (Nat.le_of_ble_eq_true rfl) dX2_costOf_44 ⟨Nat.zero_le _, Nat.zero_le _⟩ ?_
      have hbad := mb_bd hok (b := b) (k := k) (by omega) (by omega)
      refine zr_name (fun bad e_bad => ?_)
      refine lv_istore (lv' := [(6, .int (iZ (bad))), (5, .int (iZ (((k : Nat) : Int)))), (2, .int (iZ (co))), (3, .int (iZ (((b : Nat) : Int)))), (4, .int (iZ (if hi = true then 1 else 0))), (0, .ref (h 0)), (1, .int (iZ (((set : Nat) : Int))))]) hx hb dX2_costOf_47 hl (by decide) rfl (fun ls hl => ?_)
      refine lv_iload hx hb dX2_costOf_49 (lv_at hl 0 rfl) ?_
      refine zr_if_ge (tgt := 57) hx hb dX2_costOf_51 (by decide) (by unfold Rng; omega) (fun c_51 => ?_) (fun c_51 => ?_)
      · have hPk := hok.2.2.2.2 k
        refine zr_join (α := Int) (fun x => F0 m 83 ls (.int (iZ x) :: [])) (fun x => x = (if ma_here S k = true then 1 else 0)) (fun J => ?_) (fun he e_he => ?_)
        · have hPk := hok.2.2.2.2 k
          refine lv_iload hx hb dX2_costOf_57 (lv_at hl 1 rfl) ?_
          refine lv_aload_n hx hb dX2_costOf_59 rfl (lv_at hl 5 rfl) ?_
          refine gM_size G hP dX2_costOf_60 ?_
          refine zr_const hx hb dX2_costOf_63 ?_
          refine zr_sub hx hb dX2_costOf_64 ?_
          refine zr_icmp_ge (tgt := 82) hx hb dX2_costOf_65 (by decide) (by unfold Rng; omega) (fun c_65 => ?_) (fun c_65 => ?_)
          · refine zr_const hx hb dX2_costOf_82 ?_
            exact J _ (by rw [if_neg (by unfold ma_here; simp; omega)])
          · refine lv_aload_n hx hb dX2_costOf_68 rfl (lv_at hl 5 rfl) ?_
            refine gM_price G hP dX2_costOf_69 ?_
            refine lv_iload hx hb dX2_costOf_72 (lv_at hl 1 rfl) ?_
            refine aM_price G hP (k) (by omega) (by omega) dX2_costOf_74 ?_
            refine zr_if_le (tgt := 82) hx hb dX2_costOf_75 (by decide) (by unfold Rng; omega) (fun c_75 => ?_) (fun c_75 => ?_)
            · refine zr_const hx hb dX2_costOf_82 ?_
              exact J _ (by rw [if_neg (by unfold ma_here; simp; omega)])
            · refine zr_const hx hb dX2_costOf_78 ?_
              refine lv_goto (tgt := 83) hx hb dX2_costOf_79 (by decide) ?_
              exact J _ (by rw [if_pos (by unfold ma_here; simp; omega)])
        · refine lv_istore (lv' := [(7, .int (iZ (he))), (6, .int (iZ (bad))), (5, .int (iZ (((k : Nat) : Int)))), (2, .int (iZ (co))), (3, .int (iZ (((b : Nat) : Int)))), (4, .int (iZ (if hi = true then 1 else 0))), (0, .ref (h 0)), (1, .int (iZ (((set : Nat) : Int))))]) hx hb dX2_costOf_83 hl (by decide) rfl (fun ls hl => ?_)
          refine lv_iload_n hx hb dX2_costOf_85 rfl (lv_at hl 3 rfl) ?_
          refine lv_iload hx hb dX2_costOf_86 (lv_at hl 1 rfl) ?_
          refine zr_add hx hb dX2_costOf_88 ?_
          refine zr_join (α := Int) (fun x => F0 m 111 ls (.int (iZ x) :: [.int (iZ ((co) + (bad)))])) (fun x => x = (if k + 1 < S.c then S.P k else 0)) (fun J => ?_) (fun pr e_pr => ?_)
          · refine lv_iload hx hb dX2_costOf_89 (lv_at hl 2 rfl) ?_
            refine lv_aload_n hx hb dX2_costOf_91 rfl (lv_at hl 6 rfl) ?_
            refine gM_size G hP dX2_costOf_92 ?_
            refine zr_const hx hb dX2_costOf_95 ?_
            refine zr_sub hx hb dX2_costOf_96 ?_
            refine zr_icmp_ge (tgt := 110) hx hb dX2_costOf_97 (by decide) (by unfold Rng; omega) (fun c_97 => ?_) (fun c_97 => ?_)
            · refine zr_const hx hb dX2_costOf_110 ?_
              exact J _ (by rw [if_neg (by omega)])
            · refine lv_aload_n hx hb dX2_costOf_100 rfl (lv_at hl 6 rfl) ?_
              refine gM_price G hP dX2_costOf_101 ?_
              refine lv_iload hx hb dX2_costOf_104 (lv_at hl 2 rfl) ?_
              refine aM_price G hP (k) (by omega) (by omega) dX2_costOf_106 ?_
              refine lv_goto (tgt := 111) hx hb dX2_costOf_107 (by decide) ?_
              exact J _ (by rw [if_pos (by omega)])
          · refine zr_add hx hb dX2_costOf_111 ?_
            refine zr_join (α := Int) (fun x => F0 m 130 ls (.int (iZ x) :: [.int (iZ (((co) + (bad)) + (pr)))])) (fun x => x = (if hi = true ∧ ma_here S k = true then S.e else 0)) (fun J => ?_) (fun ex e_ex => ?_)
            · refine lv_iload hx hb dX2_costOf_112 (lv_at hl 5 rfl) ?_
              refine zr_if_eq (tgt := 129) hx hb dX2_costOf_114 (by decide) (bi_rng _) (fun c_114 => ?_) (fun c_114 => ?_)
              · have hno : ¬ (hi = true ∧ ma_here S k = true) := fun z => bi_0 c_114 z.1
                refine zr_const hx hb dX2_costOf_129 ?_
                exact J _ (by rw [if_neg hno])
              · refine lv_iload hx hb dX2_costOf_117 (lv_at hl 0 rfl) ?_
                refine zr_if_eq (tgt := 129) hx hb dX2_costOf_119 (by decide) (by rw [e_he]; exact bi_rng _) (fun c_119 => ?_) (fun c_119 => ?_)
                · have hno : ¬ (hi = true ∧ ma_here S k = true) := fun z => bi_0 (by rw [← e_he]; exact c_119) z.2
                  refine zr_const hx hb dX2_costOf_129 ?_
                  exact J _ (by rw [if_neg hno])
                · refine lv_aload_n hx hb dX2_costOf_122 rfl (lv_at hl 6 rfl) ?_
                  refine gM_more G hP dX2_costOf_123 ?_
                  refine lv_goto (tgt := 130) hx hb dX2_costOf_126 (by decide) ?_
                  exact J _ (by rw [if_pos ⟨bi_1 c_114, bi_1 (by rw [← e_he]; exact c_119)⟩])
            · refine zr_add hx hb dX2_costOf_130 ?_
              refine lv_istore_n (lv' := [(2, .int (iZ ((((co) + (bad)) + (pr)) + (ex)))), (7, .int (iZ (he))), (6, .int (iZ (bad))), (5, .int (iZ (((k : Nat) : Int)))), (3, .int (iZ (((b : Nat) : Int)))), (4, .int (iZ (if hi = true then 1 else 0))), (0, .ref (h 0)), (1, .int (iZ (((set : Nat) : Int))))]) hx hb dX2_costOf_131 rfl hl (by decide) rfl (fun ls hl => ?_)
              refine lv_iload hx hb dX2_costOf_132 (lv_at hl 1 rfl) ?_
              refine zr_eq (y := if ma_here S k = true then 1 else 0) (e_he) ?_
              refine lv_istore (lv' := [(4, .int (iZ (if ma_here S k = true then 1 else 0))), (2, .int (iZ ((((co) + (bad)) + (pr)) + (ex)))), (7, .int (iZ (he))), (6, .int (iZ (bad))), (5, .int (iZ (((k : Nat) : Int)))), (3, .int (iZ (((b : Nat) : Int)))), (0, .ref (h 0)), (1, .int (iZ (((set : Nat) : Int))))]) hx hb dX2_costOf_134 hl (by decide) rfl (fun ls hl => ?_)
              refine lv_iload hx hb dX2_costOf_136 (lv_at hl 4 rfl) ?_
              refine zr_const hx hb dX2_costOf_138 ?_
              refine zr_add hx hb dX2_costOf_139 ?_
              refine zr_eq (y := ((k + 1 : Nat) : Int)) (by omega) ?_
              refine lv_istore_n (lv' := [(3, .int (iZ (((k + 1 : Nat) : Int)))), (4, .int (iZ (if ma_here S k = true then 1 else 0))), (2, .int (iZ ((((co) + (bad)) + (pr)) + (ex)))), (7, .int (iZ (he))), (6, .int (iZ (bad))), (5, .int (iZ (((k : Nat) : Int)))), (0, .ref (h 0)), (1, .int (iZ (((set : Nat) : Int))))]) hx hb dX2_costOf_140 rfl hl (by decide) rfl (fun ls hl => ?_)
              refine zr_incN (lv' := [(5, .int (iZ (((k + 1 : Nat) : Int)))), (3, .int (iZ (((k + 1 : Nat) : Int)))), (4, .int (iZ (if ma_here S k = true then 1 else 0))), (2, .int (iZ ((((co) + (bad)) + (pr)) + (ex)))), (7, .int (iZ (he))), (6, .int (iZ (bad))), (0, .ref (h 0)), (1, .int (iZ (((set : Nat) : Int))))]) hx hb dX2_costOf_141 hl 5 rfl (by decide) rfl (fun ls hl => ?_)
              refine lv_goto (tgt := 10) hx hb dX2_costOf_144 (by decide) ?_
              exact ih (co + bad + pr + ex, k + 1, ma_here S k) ls (by omega) ⟨by rw [e_pr, e_ex, e_bad]; exact cs_take hC hj (by omega), Nat.le_refl _⟩ (lv_sub hl [0, 3, 1, 2, 6, 7] rfl)
      · refine zr_ldc (n := -1000000) hx hb G.1.2.2.2.1 (G.1.2.2.2.2 _ q247) dX2_costOf_54 (by decide) ?_
        exact zr_ret hx hb hr hlocks (by rw [cs_none (by omega) hC hj (by omega)]) dX2_costOf_56
set_option maxHeartbeats 4000000 in
set_option maxRecDepth 100000 in
/-- before -/
theorem mM_before (l : Launch) (D : va_G) (dB dI : ClassId) (h : Nat → Nat) (S : Par) (hok : pb_Ok S) (a b : Nat) (ha : a < 512) (hb1 : b < 512) : RO l yX2_before cX2_before 6 (some .boolean) ({ frames := 1, cells := 0, slots := 0, locals := 23 }) D (tyA dB dI) (wM dI h S) [.ref (h 0), .int (iZ (((a : Nat) : Int))), .int (iZ (((b : Nat) : Int)))] (iZ (if ma_bf S a b = true then 1 else 0)) := by
  refine RO.mk (by decide) (Nat.le_of_ble_eq_true rfl) ?_
  intro pr e s m below meth c ls G hr hlocks hP hl
  have G : CM pr m c cX2_before 6 s _ D dB dI := G
  have hx := G.1.1
  have hb := G.1.2.1
  have hl : lv_has ls 6 [(0, .ref (h 0)), (1, .int (iZ (((a : Nat) : Int)))), (2, .int (iZ (((b : Nat) : Int))))] := hl
  have hca := cn_bd S a
  have hcb := cn_bd S b
  refine lv_aload_n hx hb dX2_before_0 rfl (lv_at hl 0 rfl) ?_
  refine lv_iload_n hx hb dX2_before_1 rfl (lv_at hl 1 rfl) ?_
  refine zr_callV (rest := []) (As := [.int (iZ (((a : Nat) : Int)))]) G.1 (mM_count l D dB dI h S hok a ha) (lw_V q252 q254 qs19 q22 q255) hd_X2_count ⟨⟨rfl, rfl⟩, Nat.le_of_ble_eq_true rfl, Nat.le_of_ble_eq_true rfl⟩ G.2 hP (wM_0 ..) rfl rfl hl.1 rfl (Nat.le_of_ble_eq_true rfl) dX2_before_2 ⟨Nat.zero_le _, Nat.zero_le _⟩ ?_
  refine lv_istore_n (lv' := [(3, .int (iZ (((ma_cn S a : Nat) : Int)))), (0, .ref (h 0)), (1, .int (iZ (((a : Nat) : Int)))), (2, .int (iZ (((b : Nat) : Int))))]) hx hb dX2_before_5 rfl hl (by decide) rfl (fun ls hl => ?_)
  refine lv_aload_n hx hb dX2_before_6 rfl (lv_at hl 1 rfl) ?_
  refine lv_iload_n hx hb dX2_before_7 rfl (lv_at hl 3 rfl) ?_
  refine zr_callV (rest := []) (As := [.int (iZ (((b : Nat) : Int)))]) G.1 (mM_count l D dB dI h S hok b hb1) (lw_V q252 q254 qs19 q22 q255) hd_X2_count ⟨⟨rfl, rfl⟩, Nat.le_of_ble_eq_true rfl, Nat.le_of_ble_eq_true rfl⟩ G.2 hP (wM_0 ..) rfl rfl hl.1 rfl (Nat.le_of_ble_eq_true rfl) dX2_before_8 ⟨Nat.zero_le _, Nat.zero_le _⟩ ?_
  refine lv_istore (lv' := [(4, .int (iZ (((ma_cn S b : Nat) : Int)))), (3, .int (iZ (((ma_cn S a : Nat) : Int)))), (0, .ref (h 0)), (1, .int (iZ (((a : Nat) : Int)))), (2, .int (iZ (((b : Nat) : Int))))]) hx hb dX2_before_11 hl (by decide) rfl (fun ls hl => ?_)
  refine lv_iload_n hx hb dX2_before_13 rfl (lv_at hl 1 rfl) ?_
  refine lv_iload hx hb dX2_before_14 (lv_at hl 0 rfl) ?_
  refine zr_icmp_eq (tgt := 31) hx hb dX2_before_16 (by decide) (by unfold Rng; omega) (fun c_16 => ?_) (fun c_16 => ?_)
  · refine zr_const hx hb dX2_before_31 ?_
    refine zr_eq (y := ((0 : Nat) : Int)) (rfl) ?_
    refine lv_istore (lv' := [(5, .int (iZ (((0 : Nat) : Int)))), (4, .int (iZ (((ma_cn S b : Nat) : Int)))), (3, .int (iZ (((ma_cn S a : Nat) : Int)))), (0, .ref (h 0)), (1, .int (iZ (((a : Nat) : Int)))), (2, .int (iZ (((b : Nat) : Int))))]) hx hb dX2_before_32 hl (by decide) rfl (fun ls hl => ?_)
    refine zr_loop (pc := 34) (nL := 6) 10 (fun k => [(5, .int (iZ ((k : Nat) : Int))), (0, .ref (h 0)), (1, .int (iZ ((a : Nat) : Int))), (2, .int (iZ ((b : Nat) : Int)))]) (fun k => ma_bf S a b = ma_bk a b (10 - k) k) ?_ 0 ls (Nat.zero_le _) (by unfold ma_bf; rw [if_pos (by omega)]) (lv_sub hl [0, 3, 4, 5] rfl)
    intro k ls hk hC hl ih
    have hl : lv_has ls 6 [(5, .int (iZ ((k : Nat) : Int))), (0, .ref (h 0)), (1, .int (iZ ((a : Nat) : Int))), (2, .int (iZ ((b : Nat) : Int)))] := hl
    have hba := th_bt_lt a k
    have hbb := th_bt_lt b k
    refine lv_iload hx hb dX2_before_34 (lv_at hl 0 rfl) ?_
    refine zr_bipush hx hb dX2_before_36 (by decide) ?_
    refine zr_icmp_ge (tgt := 78) hx hb dX2_before_38 (by decide) (by unfold Rng; omega) (fun c_38 => ?_) (fun c_38 => ?_)
    · refine zr_const hx hb dX2_before_78 ?_
      exact zr_zret hx hb hr hlocks (by rw [show ma_bf S a b = false from by rw [hC, show 10 - k = 0 by omega]; rfl]; rfl) (Or.inl rfl) dX2_before_79
    · refine lv_iload_n hx hb dX2_before_41 rfl (lv_at hl 2 rfl) ?_
      refine lv_iload hx hb dX2_before_42 (lv_at hl 0 rfl) ?_
      refine lv_ishr hx hb dX2_before_44 ?_
      refine zr_const hx hb dX2_before_45 ?_
      refine lv_iand hx hb dX2_before_46 ?_
      refine zr_top (y := iZ (((pb_bt (a) (k) : Nat) : Int))) (iZ_bit _ (by omega) _ (by omega)) ?_
      refine lv_iload_n hx hb dX2_before_47 rfl (lv_at hl 3 rfl) ?_
      refine lv_iload hx hb dX2_before_48 (lv_at hl 0 rfl) ?_
      refine lv_ishr hx hb dX2_before_50 ?_
      refine zr_const hx hb dX2_before_51 ?_
      refine lv_iand hx hb dX2_before_52 ?_
      refine zr_top (y := iZ (((pb_bt (b) (k) : Nat) : Int))) (iZ_bit _ (by omega) _ (by omega)) ?_
      refine zr_icmp_eq (tgt := 72) hx hb dX2_before_53 (by decide) (by unfold Rng; omega) (fun c_53 => ?_) (fun c_53 => ?_)
      · refine zr_incN (lv' := [(5, .int (iZ (((k + 1 : Nat) : Int)))), (0, .ref (h 0)), (1, .int (iZ (((a : Nat) : Int)))), (2, .int (iZ (((b : Nat) : Int))))]) hx hb dX2_before_72 hl 0 rfl (by decide) rfl (fun ls hl => ?_)
        refine lv_goto (tgt := 34) hx hb dX2_before_75 (by decide) ?_
        exact ih ls (by omega) (by rw [hC, show 10 - k = (10 - (k + 1)) + 1 by omega]; simp only [ma_bk]; rw [if_pos (by omega)]) (lv_sub hl [0, 1, 2, 3] rfl)
      · refine lv_iload_n hx hb dX2_before_56 rfl (lv_at hl 2 rfl) ?_
        refine lv_iload hx hb dX2_before_57 (lv_at hl 0 rfl) ?_
        refine lv_ishr hx hb dX2_before_59 ?_
        refine zr_const hx hb dX2_before_60 ?_
        refine lv_iand hx hb dX2_before_61 ?_
        refine zr_top (y := iZ (((pb_bt (a) (k) : Nat) : Int))) (iZ_bit _ (by omega) _ (by omega)) ?_
        refine zr_const hx hb dX2_before_62 ?_
        refine zr_icmp_ne (tgt := 70) hx hb dX2_before_63 (by decide) (by unfold Rng; omega) (fun c_63 => ?_) (fun c_63 => ?_)
        · refine zr_const hx hb dX2_before_70 ?_
          exact zr_zret hx hb hr hlocks (by rw [show ma_bf S a b = false from by rw [hC, show 10 - k = (10 - (k + 1)) + 1 by omega]; simp only [ma_bk]; rw [if_neg (by omega)]; exact decide_eq_false (by omega)]; rfl) (Or.inl rfl) dX2_before_71
        · refine zr_const hx hb dX2_before_66 ?_
          refine lv_goto (tgt := 71) hx hb dX2_before_67 (by decide) ?_
          exact zr_zret hx hb hr hlocks (by rw [show ma_bf S a b = true from by rw [hC, show 10 - k = (10 - (k + 1)) + 1 by omega]; simp only [ma_bk]; rw [if_neg (by omega)]; exact decide_eq_true (by omega)]; rfl) (Or.inr rfl) dX2_before_71
  · refine lv_iload_n hx hb dX2_before_19 rfl (lv_at hl 1 rfl) ?_
    refine lv_iload hx hb dX2_before_20 (lv_at hl 0 rfl) ?_
    refine zr_icmp_ge (tgt := 29) hx hb dX2_before_22 (by decide) (by unfold Rng; omega) (fun c_22 => ?_) (fun c_22 => ?_)
    · refine zr_const hx hb dX2_before_29 ?_
      exact zr_zret hx hb hr hlocks (by rw [show ma_bf S a b = false from by unfold ma_bf; rw [if_neg (by omega)]; exact decide_eq_false (by omega)]; rfl) (Or.inl rfl) dX2_before_30
    · refine zr_const hx hb dX2_before_25 ?_
      refine lv_goto (tgt := 30) hx hb dX2_before_26 (by decide) ?_
      exact zr_zret hx hb hr hlocks (by rw [show ma_bf S a b = true from by unfold ma_bf; rw [if_neg (by omega)]; exact decide_eq_true (by omega)]; rfl) (Or.inr rfl) dX2_before_30
set_option maxHeartbeats 4000000 in
set_option maxRecDepth 100000 in
/-- best -/
theorem mM_best (l : Launch) (D : va_G) (dB dI : ClassId) (h : Nat → Nat) (S : Par) (hok : pb_Ok S) (must never : Int32) (K : Nat → Bool) (hK : bs_K must never K) : RO l yX2_best cX2_best 7 (some .int) ({ frames := 3, cells := 0, slots := 0, locals := 74 }) D (tyA dB dI) (wM dI h S) [.ref (h 0), .int (must), .int (never)] (iZ (ma_best S K)) := by
  refine RO.mk (by decide) (Nat.le_of_ble_eq_true rfl) ?_
  intro pr e s m below meth c ls G hr hlocks hP hl
  have G : CM pr m c cX2_best 7 s _ D dB dI := G
  have hx := G.1.1
  have hb := G.1.2.1
  have hl : lv_has ls 7 [(0, .ref (h 0)), (1, .int (must)), (2, .int (never))] := hl
  have hc10 := hok.2.2.1
  have hsets := sets_bd hok
  refine zr_const hx hb dX2_best_0 ?_
  refine zr_eq (y := (ma_bs S K 0).1) (rfl) ?_
  refine lv_istore_n (lv' := [(3, .int (iZ ((ma_bs S K 0).1))), (0, .ref (h 0)), (1, .int (must)), (2, .int (never))]) hx hb dX2_best_1 rfl hl (by decide) rfl (fun ls hl => ?_)
  refine zr_const hx hb dX2_best_2 ?_
  refine zr_eq (y := (ma_bs S K 0).2) (rfl) ?_
  refine lv_istore (lv' := [(4, .int (iZ ((ma_bs S K 0).2))), (3, .int (iZ ((ma_bs S K 0).1))), (0, .ref (h 0)), (1, .int (must)), (2, .int (never))]) hx hb dX2_best_3 hl (by decide) rfl (fun ls hl => ?_)
  refine zr_const hx hb dX2_best_5 ?_
  refine zr_eq (y := ((0 : Nat) : Int)) (rfl) ?_
  refine lv_istore (lv' := [(5, .int (iZ (((0 : Nat) : Int)))), (4, .int (iZ ((ma_bs S K 0).2))), (3, .int (iZ ((ma_bs S K 0).1))), (0, .ref (h 0)), (1, .int (must)), (2, .int (never))]) hx hb dX2_best_6 hl (by decide) rfl (fun ls hl => ?_)
  refine zr_loop (pc := 8) (nL := 7) (ma_sets S) (fun i => [(5, .int (iZ ((i : Nat) : Int))), (3, .int (iZ (ma_bs S K (i)).1)), (4, .int (iZ (ma_bs S K (i)).2)), (0, .ref (h 0)), (1, .int must), (2, .int never)]) (fun _ => True) ?_ 0 ls (Nat.zero_le _) trivial (lv_sub hl [0, 2, 1, 3, 4, 5] rfl)
  intro i ls hi _ hl ih
  have hl : lv_has ls 7 [(5, .int (iZ ((i : Nat) : Int))), (3, .int (iZ (ma_bs S K (i)).1)), (4, .int (iZ (ma_bs S K (i)).2)), (0, .ref (h 0)), (1, .int must), (2, .int never)] := hl
  have hbs := bs_bd hok K i
  have hval := val_bd hok K i
  refine lv_iload hx hb dX2_best_8 (lv_at hl 0 rfl) ?_
  refine lv_aload_n hx hb dX2_best_10 rfl (lv_at hl 3 rfl) ?_
  refine zr_callV (rest := [.int (iZ (((i : Nat) : Int)))]) (As := []) G.1 (mM_sets l D dB dI h S hok) (lw_V q231 q233 qs14 q22 q234) hd_X2_sets ⟨⟨rfl, rfl⟩, Nat.le_of_ble_eq_true rfl, Nat.le_of_ble_eq_true rfl⟩ G.2 hP (wM_0 ..) rfl rfl hl.1 rfl (Nat.le_of_ble_eq_true rfl) dX2_best_11 ⟨Nat.zero_le _, Nat.zero_le _⟩ ?_
  refine zr_icmp_ge (tgt := 94) hx hb dX2_best_14 (by decide) (by unfold Rng; omega) (fun c_14 => ?_) (fun c_14 => ?_)
  · have hie : ma_sets S = i := by omega
    refine lv_iload_n hx hb dX2_best_94 rfl (lv_at hl 1 rfl) ?_
    exact zr_ret hx hb hr hlocks (by unfold ma_best; rw [hie]) dX2_best_95
  · refine zr_join (α := Int) (fun x => F0 m 44 ls (.int (iZ x) :: [])) (fun x => x = ma_val S K i) (fun J => ?_) (fun v e_v => ?_)
    · refine lv_iload_n hx hb dX2_best_17 rfl (lv_at hl 4 rfl) ?_
      refine lv_iload hx hb dX2_best_18 (lv_at hl 0 rfl) ?_
      refine zr_const hx hb dX2_best_20 ?_
      refine lv_ixor hx hb dX2_best_21 ?_
      refine lv_iand hx hb dX2_best_22 ?_
      refine lv_if_ne (tgt := 42) hx hb dX2_best_23 (by decide) (fun c_23 => ?_) (fun c_23 => ?_)
      · have hno : ¬ K i = true := fun z => c_23 ((hK i (by omega)).mp z).1
        refine zr_ldc (n := -1000000) hx hb G.1.2.2.2.1 (G.1.2.2.2.2 _ q247) dX2_best_42 (by decide) ?_
        exact J _ (by unfold ma_val; rw [if_neg hno])
      · refine lv_iload_n hx hb dX2_best_26 rfl (lv_at hl 5 rfl) ?_
        refine lv_iload hx hb dX2_best_27 (lv_at hl 0 rfl) ?_
        refine lv_iand hx hb dX2_best_29 ?_
        refine lv_if_ne (tgt := 42) hx hb dX2_best_30 (by decide) (fun c_30 => ?_) (fun c_30 => ?_)
        · have hno : ¬ K i = true := fun z => c_30 ((hK i (by omega)).mp z).2
          refine zr_ldc (n := -1000000) hx hb G.1.2.2.2.1 (G.1.2.2.2.2 _ q247) dX2_best_42 (by decide) ?_
          exact J _ (by unfold ma_val; rw [if_neg hno])
        · refine lv_aload_n hx hb dX2_best_33 rfl (lv_at hl 3 rfl) ?_
          refine lv_iload hx hb dX2_best_34 (lv_at hl 0 rfl) ?_
          refine zr_callV (rest := []) (As := [.int (iZ (((i : Nat) : Int)))]) G.1 (mM_costOf l D dB dI h S hok i (by omega)) (lw_V q235 q237 qs15 q22 q238) hd_X2_costOf ⟨⟨rfl, rfl⟩, Nat.le_of_ble_eq_true rfl, Nat.le_of_ble_eq_true rfl⟩ G.2 hP (wM_0 ..) rfl rfl hl.1 rfl (Nat.le_of_ble_eq_true rfl) dX2_best_36 ⟨Nat.zero_le _, Nat.zero_le _⟩ ?_
          refine lv_goto (tgt := 44) hx hb dX2_best_39 (by decide) ?_
          exact J _ (by unfold ma_val; rw [if_pos ((hK i (by omega)).mpr ⟨c_23, c_30⟩)])
    · refine zr_eq (y := ma_val S K i) (e_v) ?_
      refine lv_istore (lv' := [(6, .int (iZ (ma_val S K i))), (5, .int (iZ (((i : Nat) : Int)))), (3, .int (iZ ((ma_bs S K (i)).1))), (4, .int (iZ ((ma_bs S K (i)).2))), (0, .ref (h 0)), (1, .int (must)), (2, .int (never))]) hx hb dX2_best_44 hl (by decide) rfl (fun ls hl => ?_)
      refine lv_iload hx hb dX2_best_46 (lv_at hl 0 rfl) ?_
      refine zr_ldc (n := -1000000) hx hb G.1.2.2.2.1 (G.1.2.2.2.2 _ q247) dX2_best_48 (by decide) ?_
      refine zr_icmp_eq (tgt := 88) hx hb dX2_best_50 (by decide) (by unfold Rng; omega) (fun c_50 => ?_) (fun c_50 => ?_)
      · have hsk : ¬ bs_C S K i := fun z => z.1 c_50
        refine zr_incN (lv' := [(5, .int (iZ (((i + 1 : Nat) : Int)))), (6, .int (iZ (ma_val S K i))), (3, .int (iZ ((ma_bs S K (i)).1))), (4, .int (iZ ((ma_bs S K (i)).2))), (0, .ref (h 0)), (1, .int (must)), (2, .int (never))]) hx hb dX2_best_88 hl 1 rfl (by decide) rfl (fun ls hl => ?_)
        refine lv_goto (tgt := 8) hx hb dX2_best_91 (by decide) ?_
        exact ih ls (by omega) trivial (by
          show lv_has ls 7 [(5, .int (iZ ((i + 1 : Nat) : Int))), (3, .int (iZ (ma_bs S K (i + 1)).1)), (4, .int (iZ (ma_bs S K (i + 1)).2)), (0, .ref (h 0)), (1, .int must), (2, .int never)]
          rw [bs_skip hsk]
          exact lv_sub hl [0, 2, 3, 4, 5, 6] rfl)
      · refine lv_iload_n hx hb dX2_best_53 rfl (lv_at hl 2 rfl) ?_
        refine zr_if_lt (tgt := 81) hx hb dX2_best_54 (by decide) (by unfold Rng; omega) (fun c_54 => ?_) (fun c_54 => ?_)
        · have hup : bs_C S K i := ⟨c_50, Or.inl c_54⟩
          refine lv_iload hx hb dX2_best_81 (lv_at hl 1 rfl) ?_
          refine lv_istore_n (lv' := [(3, .int (iZ (((i : Nat) : Int)))), (6, .int (iZ (ma_val S K i))), (5, .int (iZ (((i : Nat) : Int)))), (4, .int (iZ ((ma_bs S K (i)).2))), (0, .ref (h 0)), (1, .int (must)), (2, .int (never))]) hx hb dX2_best_83 rfl hl (by decide) rfl (fun ls hl => ?_)
          refine lv_iload hx hb dX2_best_84 (lv_at hl 1 rfl) ?_
          refine lv_istore (lv' := [(4, .int (iZ (ma_val S K i))), (3, .int (iZ (((i : Nat) : Int)))), (6, .int (iZ (ma_val S K i))), (5, .int (iZ (((i : Nat) : Int)))), (0, .ref (h 0)), (1, .int (must)), (2, .int (never))]) hx hb dX2_best_86 hl (by decide) rfl (fun ls hl => ?_)
          refine zr_incN (lv' := [(5, .int (iZ (((i + 1 : Nat) : Int)))), (4, .int (iZ (ma_val S K i))), (3, .int (iZ (((i : Nat) : Int)))), (6, .int (iZ (ma_val S K i))), (0, .ref (h 0)), (1, .int (must)), (2, .int (never))]) hx hb dX2_best_88 hl 3 rfl (by decide) rfl (fun ls hl => ?_)
          refine lv_goto (tgt := 8) hx hb dX2_best_91 (by decide) ?_
          exact ih ls (by omega) trivial (by
            show lv_has ls 7 [(5, .int (iZ ((i + 1 : Nat) : Int))), (3, .int (iZ (ma_bs S K (i + 1)).1)), (4, .int (iZ (ma_bs S K (i + 1)).2)), (0, .ref (h 0)), (1, .int must), (2, .int never)]
            rw [bs_take hup]
            exact lv_sub hl [0, 2, 1, 4, 5, 6] rfl)
        · refine lv_iload hx hb dX2_best_57 (lv_at hl 0 rfl) ?_
          refine lv_iload hx hb dX2_best_59 (lv_at hl 3 rfl) ?_
          refine zr_icmp_lt (tgt := 81) hx hb dX2_best_61 (by decide) (by unfold Rng; omega) (fun c_61 => ?_) (fun c_61 => ?_)
          · have hup : bs_C S K i := ⟨c_50, Or.inr (Or.inl c_61)⟩
            refine lv_iload hx hb dX2_best_81 (lv_at hl 1 rfl) ?_
            refine lv_istore_n (lv' := [(3, .int (iZ (((i : Nat) : Int)))), (6, .int (iZ (ma_val S K i))), (5, .int (iZ (((i : Nat) : Int)))), (4, .int (iZ ((ma_bs S K (i)).2))), (0, .ref (h 0)), (1, .int (must)), (2, .int (never))]) hx hb dX2_best_83 rfl hl (by decide) rfl (fun ls hl => ?_)
            refine lv_iload hx hb dX2_best_84 (lv_at hl 1 rfl) ?_
            refine lv_istore (lv' := [(4, .int (iZ (ma_val S K i))), (3, .int (iZ (((i : Nat) : Int)))), (6, .int (iZ (ma_val S K i))), (5, .int (iZ (((i : Nat) : Int)))), (0, .ref (h 0)), (1, .int (must)), (2, .int (never))]) hx hb dX2_best_86 hl (by decide) rfl (fun ls hl => ?_)
            refine zr_incN (lv' := [(5, .int (iZ (((i + 1 : Nat) : Int)))), (4, .int (iZ (ma_val S K i))), (3, .int (iZ (((i : Nat) : Int)))), (6, .int (iZ (ma_val S K i))), (0, .ref (h 0)), (1, .int (must)), (2, .int (never))]) hx hb dX2_best_88 hl 3 rfl (by decide) rfl (fun ls hl => ?_)
            refine lv_goto (tgt := 8) hx hb dX2_best_91 (by decide) ?_
            exact ih ls (by omega) trivial (by
              show lv_has ls 7 [(5, .int (iZ ((i + 1 : Nat) : Int))), (3, .int (iZ (ma_bs S K (i + 1)).1)), (4, .int (iZ (ma_bs S K (i + 1)).2)), (0, .ref (h 0)), (1, .int must), (2, .int never)]
              rw [bs_take hup]
              exact lv_sub hl [0, 2, 1, 4, 5, 6] rfl)
          · refine lv_iload hx hb dX2_best_64 (lv_at hl 0 rfl) ?_
            refine lv_iload hx hb dX2_best_66 (lv_at hl 3 rfl) ?_
            refine zr_icmp_ne (tgt := 88) hx hb dX2_best_68 (by decide) (by unfold Rng; omega) (fun c_68 => ?_) (fun c_68 => ?_)
            · have hsk : ¬ bs_C S K i := fun z => by
                rcases z.2 with q | q | q
                · omega
                · omega
                · exact c_68 q.1
              refine zr_incN (lv' := [(5, .int (iZ (((i + 1 : Nat) : Int)))), (6, .int (iZ (ma_val S K i))), (3, .int (iZ ((ma_bs S K (i)).1))), (4, .int (iZ ((ma_bs S K (i)).2))), (0, .ref (h 0)), (1, .int (must)), (2, .int (never))]) hx hb dX2_best_88 hl 1 rfl (by decide) rfl (fun ls hl => ?_)
              refine lv_goto (tgt := 8) hx hb dX2_best_91 (by decide) ?_
              exact ih ls (by omega) trivial (by
                show lv_has ls 7 [(5, .int (iZ ((i + 1 : Nat) : Int))), (3, .int (iZ (ma_bs S K (i + 1)).1)), (4, .int (iZ (ma_bs S K (i + 1)).2)), (0, .ref (h 0)), (1, .int must), (2, .int never)]
                rw [bs_skip hsk]
                exact lv_sub hl [0, 2, 3, 4, 5, 6] rfl)
            · refine lv_aload_n hx hb dX2_best_71 rfl (lv_at hl 4 rfl) ?_
              refine lv_iload hx hb dX2_best_72 (lv_at hl 1 rfl) ?_
              refine lv_iload_n hx hb dX2_best_74 rfl (lv_at hl 2 rfl) ?_
              refine zr_eq (y := (((ma_bs S K (i)).1.toNat : Nat) : Int)) (by omega) ?_
              refine zr_callV (rest := []) (As := [.int (iZ (((i : Nat) : Int))), .int (iZ ((((ma_bs S K (i)).1.toNat : Nat) : Int)))]) G.1 (mM_before l D dB dI h S hok i (ma_bs S K (i)).1.toNat (by omega) (by omega)) (lw_V q248 q250 qs18 q22 q251) hd_X2_before ⟨⟨rfl, rfl⟩, Nat.le_of_ble_eq_true rfl, Nat.le_of_ble_eq_true rfl⟩ G.2 hP (wM_0 ..) rfl rfl hl.1 rfl (Nat.le_of_ble_eq_true rfl) dX2_best_75 ⟨Nat.zero_le _, Nat.zero_le _⟩ ?_
              refine zr_if_eq (tgt := 88) hx hb dX2_best_78 (by decide) (bi_rng _) (fun c_78 => ?_) (fun c_78 => ?_)
              · have hsk : ¬ bs_C S K i := fun z => by
                  rcases z.2 with q | q | q
                  · omega
                  · omega
                  · exact bi_0 c_78 q.2
                refine zr_incN (lv' := [(5, .int (iZ (((i + 1 : Nat) : Int)))), (6, .int (iZ (ma_val S K i))), (3, .int (iZ ((ma_bs S K (i)).1))), (4, .int (iZ ((ma_bs S K (i)).2))), (0, .ref (h 0)), (1, .int (must)), (2, .int (never))]) hx hb dX2_best_88 hl 1 rfl (by decide) rfl (fun ls hl => ?_)
                refine lv_goto (tgt := 8) hx hb dX2_best_91 (by decide) ?_
                exact ih ls (by omega) trivial (by
                  show lv_has ls 7 [(5, .int (iZ ((i + 1 : Nat) : Int))), (3, .int (iZ (ma_bs S K (i + 1)).1)), (4, .int (iZ (ma_bs S K (i + 1)).2)), (0, .ref (h 0)), (1, .int must), (2, .int never)]
                  rw [bs_skip hsk]
                  exact lv_sub hl [0, 2, 3, 4, 5, 6] rfl)
              · have hup : bs_C S K i := ⟨c_50, Or.inr (Or.inr ⟨c_68, bi_1 c_78⟩)⟩
                refine lv_iload hx hb dX2_best_81 (lv_at hl 1 rfl) ?_
                refine lv_istore_n (lv' := [(3, .int (iZ (((i : Nat) : Int)))), (6, .int (iZ (ma_val S K i))), (5, .int (iZ (((i : Nat) : Int)))), (4, .int (iZ ((ma_bs S K (i)).2))), (0, .ref (h 0)), (1, .int (must)), (2, .int (never))]) hx hb dX2_best_83 rfl hl (by decide) rfl (fun ls hl => ?_)
                refine lv_iload hx hb dX2_best_84 (lv_at hl 1 rfl) ?_
                refine lv_istore (lv' := [(4, .int (iZ (ma_val S K i))), (3, .int (iZ (((i : Nat) : Int)))), (6, .int (iZ (ma_val S K i))), (5, .int (iZ (((i : Nat) : Int)))), (0, .ref (h 0)), (1, .int (must)), (2, .int (never))]) hx hb dX2_best_86 hl (by decide) rfl (fun ls hl => ?_)
                refine zr_incN (lv' := [(5, .int (iZ (((i + 1 : Nat) : Int)))), (4, .int (iZ (ma_val S K i))), (3, .int (iZ (((i : Nat) : Int)))), (6, .int (iZ (ma_val S K i))), (0, .ref (h 0)), (1, .int (must)), (2, .int (never))]) hx hb dX2_best_88 hl 3 rfl (by decide) rfl (fun ls hl => ?_)
                refine lv_goto (tgt := 8) hx hb dX2_best_91 (by decide) ?_
                exact ih ls (by omega) trivial (by
                  show lv_has ls 7 [(5, .int (iZ ((i + 1 : Nat) : Int))), (3, .int (iZ (ma_bs S K (i + 1)).1)), (4, .int (iZ (ma_bs S K (i + 1)).2)), (0, .ref (h 0)), (1, .int must), (2, .int never)]
                  rw [bs_take hup]
                  exact lv_sub hl [0, 2, 1, 4, 5, 6] rfl)
end
section
/-! THE REFERENCE's methods, 2: the answers, and the paragraph's changes -/
theorem eo_bd {S : Par} (h : pb_Ok S) (k : Int) : -1 ≤ ma_endOf S k ∧ ma_endOf S k ≤ 9 := by
  rw [th_endOf h k]
  have := el_bd h k
  unfold xa_endOf
  split <;> omega
theorem eo_mono {S : Par} (h : pb_Ok S) {k : Int} (h0 : 0 ≤ ma_endOf S k) (hk : 0 < k) : ma_endOf S (k - 1) ≤ ma_endOf S k := by
  rw [th_endOf h k] at h0 ⊢
  rw [th_endOf h (k - 1)]
  unfold xa_endOf at h0 ⊢
  by_cases q : pb_EL S k < 0
  · rw [if_pos q] at h0
    omega
  · have := el_mono h (k := k) (by omega) hk
    rw [if_neg q, if_neg (by omega)]
    omega
theorem cost_bd {S : Par} (h : pb_Ok S) (K : Nat → Bool) : ma_costB S K = -1000000 ∨ (-400 ≤ ma_costB S K ∧ ma_costB S K ≤ 37400) := by
  unfold ma_costB
  split
  · exact Or.inl rfl
  · exact co_bd h _
theorem cwv_bd {S : Par} (h : pb_Ok S) (n : Int) (i : Nat) : ma_cwv S n i = -1000000 ∨ (-400 ≤ ma_cwv S n i ∧ ma_cwv S n i ≤ 37400) := by
  unfold ma_cwv
  split
  · exact co_bd h _
  · exact Or.inl rfl
theorem cw_bd {S : Par} (h : pb_Ok S) (n : Int) (i : Nat) : ma_cw S n i = -1000000 ∨ (-400 ≤ ma_cw S n i ∧ ma_cw S n i ≤ 37400) := by
  rcases th_cw S n i with ⟨a, _⟩ | ⟨j, _, a, _, _⟩
  · exact Or.inl a
  · rw [a]
    exact cwv_bd h n j
theorem eo_step {S : Par} {g i : Nat} {k n : Int} (hi : i < S.c) : ma_eo S g k (S.c - i) i n = if pb_bt g i = 1 ∨ i + 1 = S.c then (if n = k then (i : Int) else ma_eo S g k (S.c - (i + 1)) (i + 1) (n + 1)) else ma_eo S g k (S.c - (i + 1)) (i + 1) n := by
  rw [show S.c - i = (S.c - (i + 1)) + 1 by omega]
  simp only [ma_eo]
theorem ch_step {S : Par} {v : Int} (i : Nat) : ma_ch S v (i + 1) = if ma_co S i = v then ma_ch S v i + 1 else ma_ch S v i := by simp only [ma_ch]
theorem cw_step {S : Par} {n : Int} (i : Nat) : ma_cw S n (i + 1) = if ma_cwv S n i ≠ -1000000 ∧ (ma_cw S n i = -1000000 ∨ ma_cwv S n i < ma_cw S n i) then ma_cwv S n i else ma_cw S n i := by simp only [ma_cw]
set_option maxHeartbeats 4000000 in
set_option maxRecDepth 100000 in
/-- cost -/
theorem mM_cost (l : Launch) (D : va_G) (dB dI : ClassId) (h : Nat → Nat) (S : Par) (hok : pb_Ok S) : RO l yX2_cost cX2_cost 2 (some .int) ({ frames := 4, cells := 0, slots := 0, locals := 100 }) D (tyA dB dI) (wM dI h S) [.ref (h 0)] (iZ (ma_cost S)) := by
  refine RO.mk (by decide) (Nat.le_of_ble_eq_true rfl) ?_
  intro pr e s m below meth c ls G hr hlocks hP hl
  have G : CM pr m c cX2_cost 2 s _ D dB dI := G
  have hx := G.1.1
  have hb := G.1.2.1
  have hl : lv_has ls 2 [(0, .ref (h 0))] := hl
  have hbb := best_bd hok ma_all
  refine lv_aload_n hx hb dX2_cost_0 rfl (lv_at hl 0 rfl) ?_
  refine zr_const hx hb dX2_cost_1 ?_
  refine zr_const hx hb dX2_cost_2 ?_
  refine zr_callV (rest := []) (As := [.int (iZ (0)), .int (iZ (0))]) G.1 (mM_best l D dB dI h S hok (iZ 0) (iZ 0) ma_all bk_all) (lw_V q227 q229 qs13 q22 q230) hd_X2_best ⟨⟨rfl, rfl⟩, Nat.le_of_ble_eq_true rfl, Nat.le_of_ble_eq_true rfl⟩ G.2 hP (wM_0 ..) rfl rfl hl.1 rfl (Nat.le_of_ble_eq_true rfl) dX2_cost_3 ⟨Nat.zero_le _, Nat.zero_le _⟩ ?_
  refine lv_istore_n (lv' := [(1, .int (iZ (ma_best S ma_all))), (0, .ref (h 0))]) hx hb dX2_cost_6 rfl hl (by decide) rfl (fun ls hl => ?_)
  refine lv_iload_n hx hb dX2_cost_7 rfl (lv_at hl 0 rfl) ?_
  refine zr_if_ge (tgt := 16) hx hb dX2_cost_8 (by decide) (by unfold Rng; omega) (fun c_8 => ?_) (fun c_8 => ?_)
  · refine lv_aload_n hx hb dX2_cost_16 rfl (lv_at hl 1 rfl) ?_
    refine lv_iload_n hx hb dX2_cost_17 rfl (lv_at hl 0 rfl) ?_
    refine zr_eq (y := (((ma_best S ma_all).toNat : Nat) : Int)) (by omega) ?_
    refine zr_callV (rest := []) (As := [.int (iZ ((((ma_best S ma_all).toNat : Nat) : Int)))]) G.1 (mM_costOf l D dB dI h S hok (ma_best S ma_all).toNat (by omega)) (lw_V q235 q237 qs15 q22 q238) hd_X2_costOf ⟨⟨rfl, rfl⟩, Nat.le_of_ble_eq_true rfl, Nat.le_of_ble_eq_true rfl⟩ G.2 hP (wM_0 ..) rfl rfl hl.1 rfl (Nat.le_of_ble_eq_true rfl) dX2_cost_18 ⟨Nat.zero_le _, Nat.zero_le _⟩ ?_
    exact zr_ret hx hb hr hlocks (by unfold ma_cost ma_costB; rw [if_neg (by omega)]) dX2_cost_21
  · refine zr_ldc (n := -1000000) hx hb G.1.2.2.2.1 (G.1.2.2.2.2 _ q247) dX2_cost_11 (by decide) ?_
    refine lv_goto (tgt := 21) hx hb dX2_cost_13 (by decide) ?_
    exact zr_ret hx hb hr hlocks (by unfold ma_cost ma_costB; rw [if_pos (by omega)]) dX2_cost_21
set_option maxHeartbeats 4000000 in
set_option maxRecDepth 100000 in
/-- lines -/
theorem mM_lines (l : Launch) (D : va_G) (dB dI : ClassId) (h : Nat → Nat) (S : Par) (hok : pb_Ok S) : RO l yX2_lines cX2_lines 2 (some .int) ({ frames := 4, cells := 0, slots := 0, locals := 100 }) D (tyA dB dI) (wM dI h S) [.ref (h 0)] (iZ (ma_lines S)) := by
  refine RO.mk (by decide) (Nat.le_of_ble_eq_true rfl) ?_
  intro pr e s m below meth c ls G hr hlocks hP hl
  have G : CM pr m c cX2_lines 2 s _ D dB dI := G
  have hx := G.1.1
  have hb := G.1.2.1
  have hl : lv_has ls 2 [(0, .ref (h 0))] := hl
  have hbb := best_bd hok ma_all
  refine lv_aload_n hx hb dX2_lines_0 rfl (lv_at hl 0 rfl) ?_
  refine zr_const hx hb dX2_lines_1 ?_
  refine zr_const hx hb dX2_lines_2 ?_
  refine zr_callV (rest := []) (As := [.int (iZ (0)), .int (iZ (0))]) G.1 (mM_best l D dB dI h S hok (iZ 0) (iZ 0) ma_all bk_all) (lw_V q227 q229 qs13 q22 q230) hd_X2_best ⟨⟨rfl, rfl⟩, Nat.le_of_ble_eq_true rfl, Nat.le_of_ble_eq_true rfl⟩ G.2 hP (wM_0 ..) rfl rfl hl.1 rfl (Nat.le_of_ble_eq_true rfl) dX2_lines_3 ⟨Nat.zero_le _, Nat.zero_le _⟩ ?_
  refine lv_istore_n (lv' := [(1, .int (iZ (ma_best S ma_all))), (0, .ref (h 0))]) hx hb dX2_lines_6 rfl hl (by decide) rfl (fun ls hl => ?_)
  refine lv_iload_n hx hb dX2_lines_7 rfl (lv_at hl 0 rfl) ?_
  refine zr_if_ge (tgt := 15) hx hb dX2_lines_8 (by decide) (by unfold Rng; omega) (fun c_8 => ?_) (fun c_8 => ?_)
  · refine lv_aload_n hx hb dX2_lines_15 rfl (lv_at hl 1 rfl) ?_
    refine lv_iload_n hx hb dX2_lines_16 rfl (lv_at hl 0 rfl) ?_
    refine zr_eq (y := (((ma_best S ma_all).toNat : Nat) : Int)) (by omega) ?_
    refine zr_callV (rest := []) (As := [.int (iZ ((((ma_best S ma_all).toNat : Nat) : Int)))]) G.1 (mM_count l D dB dI h S hok (ma_best S ma_all).toNat (by omega)) (lw_V q252 q254 qs19 q22 q255) hd_X2_count ⟨⟨rfl, rfl⟩, Nat.le_of_ble_eq_true rfl, Nat.le_of_ble_eq_true rfl⟩ G.2 hP (wM_0 ..) rfl rfl hl.1 rfl (Nat.le_of_ble_eq_true rfl) dX2_lines_17 ⟨Nat.zero_le _, Nat.zero_le _⟩ ?_
    exact zr_ret hx hb hr hlocks (by unfold ma_lines; rw [if_neg (by omega)]) dX2_lines_20
  · refine zr_const hx hb dX2_lines_11 ?_
    refine lv_goto (tgt := 20) hx hb dX2_lines_12 (by decide) ?_
    exact zr_ret hx hb hr hlocks (by unfold ma_lines; rw [if_pos (by omega)]) dX2_lines_20
set_option maxHeartbeats 4000000 in
set_option maxRecDepth 100000 in
/-- lineOf -/
theorem mM_lineOf (l : Launch) (D : va_G) (dB dI : ClassId) (h : Nat → Nat) (S : Par) (hok : pb_Ok S) (i : Int) (hi : Rng i) : RO l yX2_lineOf cX2_lineOf 5 (some .int) ({ frames := 4, cells := 0, slots := 0, locals := 100 }) D (tyA dB dI) (wM dI h S) [.ref (h 0), .int (iZ (i))] (iZ (ma_lineOf S i)) := by
  refine RO.mk (by decide) (Nat.le_of_ble_eq_true rfl) ?_
  intro pr e s m below meth c ls G hr hlocks hP hl
  have G : CM pr m c cX2_lineOf 5 s _ D dB dI := G
  have hx := G.1.1
  have hb := G.1.2.1
  have hl : lv_has ls 5 [(0, .ref (h 0)), (1, .int (iZ (i)))] := hl
  have hbb := best_bd hok ma_all
  have hc10 := hok.2.2.1
  have his := isI_spec S i
  refine lv_aload_n hx hb dX2_lineOf_0 rfl (lv_at hl 0 rfl) ?_
  refine zr_const hx hb dX2_lineOf_1 ?_
  refine zr_const hx hb dX2_lineOf_2 ?_
  refine zr_callV (rest := []) (As := [.int (iZ (0)), .int (iZ (0))]) G.1 (mM_best l D dB dI h S hok (iZ 0) (iZ 0) ma_all bk_all) (lw_V q227 q229 qs13 q22 q230) hd_X2_best ⟨⟨rfl, rfl⟩, Nat.le_of_ble_eq_true rfl, Nat.le_of_ble_eq_true rfl⟩ G.2 hP (wM_0 ..) rfl rfl hl.1 rfl (Nat.le_of_ble_eq_true rfl) dX2_lineOf_3 ⟨Nat.zero_le _, Nat.zero_le _⟩ ?_
  refine lv_istore_n (lv' := [(2, .int (iZ (ma_best S ma_all))), (0, .ref (h 0)), (1, .int (iZ (i)))]) hx hb dX2_lineOf_6 rfl hl (by decide) rfl (fun ls hl => ?_)
  refine lv_iload_n hx hb dX2_lineOf_7 rfl (lv_at hl 0 rfl) ?_
  refine zr_if_lt (tgt := 19) hx hb dX2_lineOf_8 (by decide) (by unfold Rng; omega) (fun c_8 => ?_) (fun c_8 => ?_)
  · refine zr_const hx hb dX2_lineOf_19 ?_
    exact zr_ret hx hb hr hlocks (by unfold ma_lineOf; rw [if_pos (by omega)]) dX2_lineOf_20
  · refine lv_aload_n hx hb dX2_lineOf_11 rfl (lv_at hl 1 rfl) ?_
    refine lv_iload_n hx hb dX2_lineOf_12 rfl (lv_at hl 2 rfl) ?_
    refine zr_callV (rest := []) (As := [.int (iZ (i))]) G.1 (mM_is l D dB dI h S hok i hi) (lw_V q211 q213 qs12 q22 q214) hd_X2_is ⟨⟨rfl, rfl⟩, Nat.le_of_ble_eq_true rfl, Nat.le_of_ble_eq_true rfl⟩ G.2 hP (wM_0 ..) rfl rfl hl.1 rfl (Nat.le_of_ble_eq_true rfl) dX2_lineOf_13 ⟨Nat.zero_le _, Nat.zero_le _⟩ ?_
    refine zr_if_ne (tgt := 21) hx hb dX2_lineOf_16 (by decide) (by unfold Rng; omega) (fun c_16 => ?_) (fun c_16 => ?_)
    · refine zr_const hx hb dX2_lineOf_21 ?_
      refine zr_eq (y := ((ma_pop (ma_best S ma_all).toNat 0 : Nat) : Int)) (rfl) ?_
      refine lv_istore_n (lv' := [(3, .int (iZ (((ma_pop (ma_best S ma_all).toNat 0 : Nat) : Int)))), (2, .int (iZ (ma_best S ma_all))), (0, .ref (h 0)), (1, .int (iZ (i)))]) hx hb dX2_lineOf_22 rfl hl (by decide) rfl (fun ls hl => ?_)
      refine zr_const hx hb dX2_lineOf_23 ?_
      refine zr_eq (y := ((0 : Nat) : Int)) (rfl) ?_
      refine lv_istore (lv' := [(4, .int (iZ (((0 : Nat) : Int)))), (3, .int (iZ (((ma_pop (ma_best S ma_all).toNat 0 : Nat) : Int)))), (2, .int (iZ (ma_best S ma_all))), (0, .ref (h 0)), (1, .int (iZ (i)))]) hx hb dX2_lineOf_24 hl (by decide) rfl (fun ls hl => ?_)
      refine zr_loop (pc := 26) (nL := 5) i.toNat (fun k => [(4, .int (iZ ((k : Nat) : Int))), (3, .int (iZ ((ma_pop (ma_best S ma_all).toNat (k) : Nat) : Int))), (0, .ref (h 0)), (1, .int (iZ i)), (2, .int (iZ (ma_best S ma_all)))]) (fun _ => True) ?_ 0 ls (Nat.zero_le _) trivial (lv_sub hl [0, 1, 3, 4, 2] rfl)
      intro k ls hk _ hl ih
      have hl : lv_has ls 5 [(4, .int (iZ ((k : Nat) : Int))), (3, .int (iZ ((ma_pop (ma_best S ma_all).toNat (k) : Nat) : Int))), (0, .ref (h 0)), (1, .int (iZ i)), (2, .int (iZ (ma_best S ma_all)))] := hl
      have hbt := th_bt_lt (ma_best S ma_all).toNat k
      refine lv_iload hx hb dX2_lineOf_26 (lv_at hl 0 rfl) ?_
      refine lv_iload_n hx hb dX2_lineOf_28 rfl (lv_at hl 3 rfl) ?_
      refine zr_icmp_ge (tgt := 47) hx hb dX2_lineOf_29 (by decide) (by unfold Rng; omega) (fun c_29 => ?_) (fun c_29 => ?_)
      · have hki : i.toNat = k := by omega
        refine lv_iload_n hx hb dX2_lineOf_47 rfl (lv_at hl 1 rfl) ?_
        exact zr_ret hx hb hr hlocks (by unfold ma_lineOf; rw [if_neg (by omega), hki]) dX2_lineOf_48
      · refine lv_iload_n hx hb dX2_lineOf_32 rfl (lv_at hl 1 rfl) ?_
        refine lv_iload_n hx hb dX2_lineOf_33 rfl (lv_at hl 4 rfl) ?_
        refine zr_eq (y := (((ma_best S ma_all).toNat : Nat) : Int)) (by omega) ?_
        refine lv_iload hx hb dX2_lineOf_34 (lv_at hl 0 rfl) ?_
        refine lv_ishr hx hb dX2_lineOf_36 ?_
        refine zr_const hx hb dX2_lineOf_37 ?_
        refine lv_iand hx hb dX2_lineOf_38 ?_
        refine zr_top (y := iZ (((pb_bt ((ma_best S ma_all).toNat) (k) : Nat) : Int))) (iZ_bit _ (by omega) _ (by omega)) ?_
        refine zr_add hx hb dX2_lineOf_39 ?_
        refine zr_eq (y := ((ma_pop (ma_best S ma_all).toNat (k + 1) : Nat) : Int)) (by simp only [ma_pop]; omega) ?_
        refine lv_istore_n (lv' := [(3, .int (iZ (((ma_pop (ma_best S ma_all).toNat (k + 1) : Nat) : Int)))), (4, .int (iZ (((k : Nat) : Int)))), (0, .ref (h 0)), (1, .int (iZ (i))), (2, .int (iZ (ma_best S ma_all)))]) hx hb dX2_lineOf_40 rfl hl (by decide) rfl (fun ls hl => ?_)
        refine zr_incN (lv' := [(4, .int (iZ (((k + 1 : Nat) : Int)))), (3, .int (iZ (((ma_pop (ma_best S ma_all).toNat (k + 1) : Nat) : Int)))), (0, .ref (h 0)), (1, .int (iZ (i))), (2, .int (iZ (ma_best S ma_all)))]) hx hb dX2_lineOf_41 hl 1 rfl (by decide) rfl (fun ls hl => ?_)
        refine lv_goto (tgt := 26) hx hb dX2_lineOf_44 (by decide) ?_
        exact ih ls (by omega) trivial (lv_sub hl [0, 1, 2, 3, 4] rfl)
    · refine zr_const hx hb dX2_lineOf_19 ?_
      exact zr_ret hx hb hr hlocks (by unfold ma_lineOf; rw [if_pos (by omega)]) dX2_lineOf_20
set_option maxHeartbeats 4000000 in
set_option maxRecDepth 100000 in
/-- endOf -/
theorem mM_endOf (l : Launch) (D : va_G) (dB dI : ClassId) (h : Nat → Nat) (S : Par) (hok : pb_Ok S) (k : Int) (hk : Rng k) : RO l yX2_endOf cX2_endOf 5 (some .int) ({ frames := 4, cells := 0, slots := 0, locals := 100 }) D (tyA dB dI) (wM dI h S) [.ref (h 0), .int (iZ (k))] (iZ (ma_endOf S k)) := by
  refine RO.mk (by decide) (Nat.le_of_ble_eq_true rfl) ?_
  intro pr e s m below meth c ls G hr hlocks hP hl
  have G : CM pr m c cX2_endOf 5 s _ D dB dI := G
  have hx := G.1.1
  have hb := G.1.2.1
  have hl : lv_has ls 5 [(0, .ref (h 0)), (1, .int (iZ (k)))] := hl
  have hbb := best_bd hok ma_all
  have hc10 := hok.2.2.1
  unfold Rng at hk
  refine lv_aload_n hx hb dX2_endOf_0 rfl (lv_at hl 0 rfl) ?_
  refine zr_const hx hb dX2_endOf_1 ?_
  refine zr_const hx hb dX2_endOf_2 ?_
  refine zr_callV (rest := []) (As := [.int (iZ (0)), .int (iZ (0))]) G.1 (mM_best l D dB dI h S hok (iZ 0) (iZ 0) ma_all bk_all) (lw_V q227 q229 qs13 q22 q230) hd_X2_best ⟨⟨rfl, rfl⟩, Nat.le_of_ble_eq_true rfl, Nat.le_of_ble_eq_true rfl⟩ G.2 hP (wM_0 ..) rfl rfl hl.1 rfl (Nat.le_of_ble_eq_true rfl) dX2_endOf_3 ⟨Nat.zero_le _, Nat.zero_le _⟩ ?_
  refine lv_istore_n (lv' := [(2, .int (iZ (ma_best S ma_all))), (0, .ref (h 0)), (1, .int (iZ (k)))]) hx hb dX2_endOf_6 rfl hl (by decide) rfl (fun ls hl => ?_)
  refine zr_const hx hb dX2_endOf_7 ?_
  refine lv_istore_n (lv' := [(3, .int (iZ (0))), (2, .int (iZ (ma_best S ma_all))), (0, .ref (h 0)), (1, .int (iZ (k)))]) hx hb dX2_endOf_8 rfl hl (by decide) rfl (fun ls hl => ?_)
  refine zr_const hx hb dX2_endOf_9 ?_
  refine zr_eq (y := ((0 : Nat) : Int)) (rfl) ?_
  refine lv_istore (lv' := [(4, .int (iZ (((0 : Nat) : Int)))), (3, .int (iZ (0))), (2, .int (iZ (ma_best S ma_all))), (0, .ref (h 0)), (1, .int (iZ (k)))]) hx hb dX2_endOf_10 hl (by decide) rfl (fun ls hl => ?_)
  refine zr_loopA (pc := 12) (nL := 5) (α := Int) S.c (fun i n => [(4, .int (iZ ((i : Nat) : Int))), (3, .int (iZ (n))), (0, .ref (h 0)), (1, .int (iZ k)), (2, .int (iZ (ma_best S ma_all)))]) (fun i n => 0 ≤ n ∧ n ≤ (i : Int) ∧ (0 ≤ ma_best S ma_all → ma_endOf S k = ma_eo S (ma_best S ma_all).toNat k (S.c - i) i n)) ?_ 0 0 ls (Nat.zero_le _) ⟨by omega, by omega, fun z => by unfold ma_endOf; rw [if_neg (by omega)]; rfl⟩ (lv_sub hl [0, 1, 3, 4, 2] rfl)
  rintro i n ls hi ⟨hn0, hni, hE⟩ hl ih
  have hl : lv_has ls 5 [(4, .int (iZ ((i : Nat) : Int))), (3, .int (iZ (n))), (0, .ref (h 0)), (1, .int (iZ k)), (2, .int (iZ (ma_best S ma_all)))] := hl
  have hbt := th_bt_lt (ma_best S ma_all).toNat i
  refine lv_iload hx hb dX2_endOf_12 (lv_at hl 0 rfl) ?_
  refine lv_aload_n hx hb dX2_endOf_14 rfl (lv_at hl 2 rfl) ?_
  refine gM_size G hP dX2_endOf_15 ?_
  refine zr_icmp_ge (tgt := 63) hx hb dX2_endOf_18 (by decide) (by unfold Rng; omega) (fun c_18 => ?_) (fun c_18 => ?_)
  · have hm1 : ma_endOf S k = -1 := by
      by_cases z : 0 ≤ ma_best S ma_all
      · rw [hE z, show S.c - i = 0 by omega]; rfl
      · unfold ma_endOf; rw [if_pos (by omega)]
    refine zr_const hx hb dX2_endOf_63 ?_
    exact zr_ret hx hb hr hlocks (by rw [hm1]) dX2_endOf_64
  · refine lv_iload_n hx hb dX2_endOf_21 rfl (lv_at hl 4 rfl) ?_
    refine zr_if_lt (tgt := 63) hx hb dX2_endOf_22 (by decide) (by unfold Rng; omega) (fun c_22 => ?_) (fun c_22 => ?_)
    · have hm1 : ma_endOf S k = -1 := by unfold ma_endOf; rw [if_pos c_22]
      refine zr_const hx hb dX2_endOf_63 ?_
      exact zr_ret hx hb hr hlocks (by rw [hm1]) dX2_endOf_64
    · refine zr_join (α := Unit) (fun _ => F0 m 46 ls []) (fun _ => pb_bt (ma_best S ma_all).toNat i = 1 ∨ i + 1 = S.c) (fun J => ?_) (fun _ hj => ?_)
      · refine lv_iload_n hx hb dX2_endOf_25 rfl (lv_at hl 4 rfl) ?_
        refine zr_eq (y := (((ma_best S ma_all).toNat : Nat) : Int)) (by omega) ?_
        refine lv_iload hx hb dX2_endOf_26 (lv_at hl 0 rfl) ?_
        refine lv_ishr hx hb dX2_endOf_28 ?_
        refine zr_const hx hb dX2_endOf_29 ?_
        refine lv_iand hx hb dX2_endOf_30 ?_
        refine zr_top (y := iZ (((pb_bt ((ma_best S ma_all).toNat) (i) : Nat) : Int))) (iZ_bit _ (by omega) _ (by omega)) ?_
        refine zr_const hx hb dX2_endOf_31 ?_
        refine zr_icmp_eq (tgt := 46) hx hb dX2_endOf_32 (by decide) (by unfold Rng; omega) (fun c_32 => ?_) (fun c_32 => ?_)
        · exact J () (by omega)
        · refine lv_iload hx hb dX2_endOf_35 (lv_at hl 0 rfl) ?_
          refine lv_aload_n hx hb dX2_endOf_37 rfl (lv_at hl 2 rfl) ?_
          refine gM_size G hP dX2_endOf_38 ?_
          refine zr_const hx hb dX2_endOf_41 ?_
          refine zr_sub hx hb dX2_endOf_42 ?_
          refine zr_icmp_ne (tgt := 57) hx hb dX2_endOf_43 (by decide) (by unfold Rng; omega) (fun c_43 => ?_) (fun c_43 => ?_)
          · refine zr_incN (lv' := [(4, .int (iZ (((i + 1 : Nat) : Int)))), (3, .int (iZ (n))), (0, .ref (h 0)), (1, .int (iZ (k))), (2, .int (iZ (ma_best S ma_all)))]) hx hb dX2_endOf_57 hl 0 rfl (by decide) rfl (fun ls hl => ?_)
            refine lv_goto (tgt := 12) hx hb dX2_endOf_60 (by decide) ?_
            exact ih n ls (by omega) ⟨by omega, by omega, fun z => by rw [hE z, eo_step (by omega), if_neg (by omega)]⟩ (lv_sub hl [0, 1, 2, 3, 4] rfl)
          · exact J () (by omega)
      · refine lv_iload_n hx hb dX2_endOf_46 rfl (lv_at hl 1 rfl) ?_
        refine lv_iload_n hx hb dX2_endOf_47 rfl (lv_at hl 3 rfl) ?_
        refine zr_icmp_ne (tgt := 54) hx hb dX2_endOf_48 (by decide) (by unfold Rng; omega) (fun c_48 => ?_) (fun c_48 => ?_)
        · refine zr_inc (lv' := [(3, .int (iZ ((n) + 1))), (4, .int (iZ (((i : Nat) : Int)))), (0, .ref (h 0)), (1, .int (iZ (k))), (2, .int (iZ (ma_best S ma_all)))]) hx hb dX2_endOf_54 hl 1 rfl (by decide) rfl (fun ls hl => ?_)
          refine zr_incN (lv' := [(4, .int (iZ (((i + 1 : Nat) : Int)))), (3, .int (iZ ((n) + 1))), (0, .ref (h 0)), (1, .int (iZ (k))), (2, .int (iZ (ma_best S ma_all)))]) hx hb dX2_endOf_57 hl 1 rfl (by decide) rfl (fun ls hl => ?_)
          refine lv_goto (tgt := 12) hx hb dX2_endOf_60 (by decide) ?_
          exact ih (n + 1) ls (by omega) ⟨by omega, by omega, fun z => by rw [hE z, eo_step (by omega), if_pos hj, if_neg (by omega)]⟩ (lv_sub hl [0, 1, 2, 3, 4] rfl)
        · refine lv_iload hx hb dX2_endOf_51 (lv_at hl 0 rfl) ?_
          exact zr_ret hx hb hr hlocks (by rw [hE (by omega), eo_step (by omega), if_pos hj, if_pos (by omega)]) dX2_endOf_53
set_option maxHeartbeats 4000000 in
set_option maxRecDepth 100000 in
/-- lengthOf -/
theorem mM_lengthOf (l : Launch) (D : va_G) (dB dI : ClassId) (h : Nat → Nat) (S : Par) (hok : pb_Ok S) (k : Int) (hk : Rng k) : RO l yX2_lengthOf cX2_lengthOf 4 (some .int) ({ frames := 5, cells := 0, slots := 0, locals := 124 }) D (tyA dB dI) (wM dI h S) [.ref (h 0), .int (iZ (k))] (iZ (ma_lengthOf S k)) := by
  refine RO.mk (by decide) (Nat.le_of_ble_eq_true rfl) ?_
  intro pr e s m below meth c ls G hr hlocks hP hl
  have G : CM pr m c cX2_lengthOf 4 s _ D dB dI := G
  have hx := G.1.1
  have hb := G.1.2.1
  have hl : lv_has ls 4 [(0, .ref (h 0)), (1, .int (iZ (k)))] := hl
  have hk2 := hk
  unfold Rng at hk2
  have he := eo_bd hok k
  have he1 := eo_bd hok (k - 1)
  refine lv_aload_n hx hb dX2_lengthOf_0 rfl (lv_at hl 0 rfl) ?_
  refine lv_iload_n hx hb dX2_lengthOf_1 rfl (lv_at hl 1 rfl) ?_
  refine zr_callV (rest := []) (As := [.int (iZ (k))]) G.1 (mM_endOf l D dB dI h S hok k hk) (lw_V q272 q265 q266 q22 q267) hd_X2_endOf ⟨⟨rfl, rfl⟩, Nat.le_of_ble_eq_true rfl, Nat.le_of_ble_eq_true rfl⟩ G.2 hP (wM_0 ..) rfl rfl hl.1 rfl (Nat.le_of_ble_eq_true rfl) dX2_lengthOf_2 ⟨Nat.zero_le _, Nat.zero_le _⟩ ?_
  refine lv_istore_n (lv' := [(2, .int (iZ (ma_endOf S k))), (0, .ref (h 0)), (1, .int (iZ (k)))]) hx hb dX2_lengthOf_5 rfl hl (by decide) rfl (fun ls hl => ?_)
  refine zr_join (α := Int) (fun x => F0 m 23 ls (.int (iZ x) :: [])) (fun x => x = (if 0 < k then ma_endOf S (k - 1) + 1 else 0)) (fun J => ?_) (fun bg e_bg => ?_)
  · refine lv_iload_n hx hb dX2_lengthOf_6 rfl (lv_at hl 2 rfl) ?_
    refine zr_if_le (tgt := 22) hx hb dX2_lengthOf_7 (by decide) (by unfold Rng; omega) (fun c_7 => ?_) (fun c_7 => ?_)
    · refine zr_const hx hb dX2_lengthOf_22 ?_
      exact J _ (by rw [if_neg (by omega)])
    · refine lv_aload_n hx hb dX2_lengthOf_10 rfl (lv_at hl 1 rfl) ?_
      refine lv_iload_n hx hb dX2_lengthOf_11 rfl (lv_at hl 2 rfl) ?_
      refine zr_const hx hb dX2_lengthOf_12 ?_
      refine zr_sub hx hb dX2_lengthOf_13 ?_
      refine zr_callV (rest := []) (As := [.int (iZ ((k) - (1)))]) G.1 (mM_endOf l D dB dI h S hok (k - 1) (by unfold Rng; omega)) (lw_V q272 q265 q266 q22 q267) hd_X2_endOf ⟨⟨rfl, rfl⟩, Nat.le_of_ble_eq_true rfl, Nat.le_of_ble_eq_true rfl⟩ G.2 hP (wM_0 ..) rfl rfl hl.1 rfl (Nat.le_of_ble_eq_true rfl) dX2_lengthOf_14 ⟨Nat.zero_le _, Nat.zero_le _⟩ ?_
      refine zr_const hx hb dX2_lengthOf_17 ?_
      refine zr_add hx hb dX2_lengthOf_18 ?_
      refine lv_goto (tgt := 23) hx hb dX2_lengthOf_19 (by decide) ?_
      exact J _ (by rw [if_pos (by omega)])
  · have hbg : 0 ≤ bg ∧ (0 ≤ ma_endOf S k → bg ≤ ma_endOf S k + 1) := by
      rw [e_bg]
      split
      · exact ⟨by omega, fun z => by have := eo_mono hok z (by assumption); omega⟩
      · exact ⟨by omega, fun z => by omega⟩
    refine lv_istore_n (lv' := [(3, .int (iZ (bg))), (2, .int (iZ (ma_endOf S k))), (0, .ref (h 0)), (1, .int (iZ (k)))]) hx hb dX2_lengthOf_23 rfl hl (by decide) rfl (fun ls hl => ?_)
    refine lv_iload_n hx hb dX2_lengthOf_24 rfl (lv_at hl 1 rfl) ?_
    refine zr_if_ge (tgt := 32) hx hb dX2_lengthOf_25 (by decide) (by unfold Rng; omega) (fun c_25 => ?_) (fun c_25 => ?_)
    · refine lv_aload_n hx hb dX2_lengthOf_32 rfl (lv_at hl 2 rfl) ?_
      refine lv_iload_n hx hb dX2_lengthOf_33 rfl (lv_at hl 0 rfl) ?_
      refine zr_eq (y := ((bg.toNat : Nat) : Int)) (by omega) ?_
      refine lv_iload_n hx hb dX2_lengthOf_34 rfl (lv_at hl 1 rfl) ?_
      refine zr_eq (y := (((ma_endOf S k).toNat : Nat) : Int)) (by omega) ?_
      refine zr_callV (rest := []) (As := [.int (iZ (((bg.toNat : Nat) : Int))), .int (iZ ((((ma_endOf S k).toNat : Nat) : Int)))]) G.1 (mM_length l D dB dI h S bg.toNat (ma_endOf S k).toNat (by omega) (by omega)) (lw_V q243 q245 qs17 q22 q246) hd_X2_length ⟨⟨rfl, rfl⟩, Nat.le_of_ble_eq_true rfl, Nat.le_of_ble_eq_true rfl⟩ G.2 hP (wM_0 ..) rfl rfl hl.1 rfl (Nat.le_of_ble_eq_true rfl) dX2_lengthOf_35 ⟨Nat.zero_le _, Nat.zero_le _⟩ ?_
      exact zr_ret hx hb hr hlocks (by unfold ma_lengthOf; rw [if_neg (by omega), ← e_bg]) dX2_lengthOf_38
    · refine zr_const hx hb dX2_lengthOf_28 ?_
      refine lv_goto (tgt := 38) hx hb dX2_lengthOf_29 (by decide) ?_
      exact zr_ret hx hb hr hlocks (by unfold ma_lengthOf; rw [if_pos (by omega)]) dX2_lengthOf_38
set_option maxHeartbeats 4000000 in
set_option maxRecDepth 100000 in
/-- costWith -/
theorem mM_costWith (l : Launch) (D : va_G) (dB dI : ClassId) (h : Nat → Nat) (S : Par) (hok : pb_Ok S) (n : Int) (hn : Rng n) : RO l yX2_costWith cX2_costWith 5 (some .int) ({ frames := 3, cells := 0, slots := 0, locals := 74 }) D (tyA dB dI) (wM dI h S) [.ref (h 0), .int (iZ (n))] (iZ (ma_costWith S n)) := by
  refine RO.mk (by decide) (Nat.le_of_ble_eq_true rfl) ?_
  intro pr e s m below meth c ls G hr hlocks hP hl
  have G : CM pr m c cX2_costWith 5 s _ D dB dI := G
  have hx := G.1.1
  have hb := G.1.2.1
  have hl : lv_has ls 5 [(0, .ref (h 0)), (1, .int (iZ (n)))] := hl
  have hc10 := hok.2.2.1
  have hsets := sets_bd hok
  unfold Rng at hn
  refine zr_ldc (n := -1000000) hx hb G.1.2.2.2.1 (G.1.2.2.2.2 _ q247) dX2_costWith_0 (by decide) ?_
  refine zr_eq (y := ma_cw S n 0) (rfl) ?_
  refine lv_istore_n (lv' := [(2, .int (iZ (ma_cw S n 0))), (0, .ref (h 0)), (1, .int (iZ (n)))]) hx hb dX2_costWith_2 rfl hl (by decide) rfl (fun ls hl => ?_)
  refine zr_const hx hb dX2_costWith_3 ?_
  refine zr_eq (y := ((0 : Nat) : Int)) (rfl) ?_
  refine lv_istore_n (lv' := [(3, .int (iZ (((0 : Nat) : Int)))), (2, .int (iZ (ma_cw S n 0))), (0, .ref (h 0)), (1, .int (iZ (n)))]) hx hb dX2_costWith_4 rfl hl (by decide) rfl (fun ls hl => ?_)
  refine zr_loop (pc := 5) (nL := 5) (ma_sets S) (fun i => [(3, .int (iZ ((i : Nat) : Int))), (2, .int (iZ (ma_cw S n (i)))), (0, .ref (h 0)), (1, .int (iZ n))]) (fun _ => True) ?_ 0 ls (Nat.zero_le _) trivial (lv_sub hl [0, 1, 2, 3] rfl)
  intro i ls hi _ hl ih
  have hl : lv_has ls 5 [(3, .int (iZ ((i : Nat) : Int))), (2, .int (iZ (ma_cw S n (i)))), (0, .ref (h 0)), (1, .int (iZ n))] := hl
  have hcn := cn_bd S i
  have hv := cwv_bd hok n i
  have hw := cw_bd hok n i
  refine lv_iload_n hx hb dX2_costWith_5 rfl (lv_at hl 0 rfl) ?_
  refine lv_aload_n hx hb dX2_costWith_6 rfl (lv_at hl 2 rfl) ?_
  refine zr_callV (rest := [.int (iZ (((i : Nat) : Int)))]) (As := []) G.1 (mM_sets l D dB dI h S hok) (lw_V q231 q233 qs14 q22 q234) hd_X2_sets ⟨⟨rfl, rfl⟩, Nat.le_of_ble_eq_true rfl, Nat.le_of_ble_eq_true rfl⟩ G.2 hP (wM_0 ..) rfl rfl hl.1 rfl (Nat.le_of_ble_eq_true rfl) dX2_costWith_7 ⟨Nat.zero_le _, Nat.zero_le _⟩ ?_
  refine zr_icmp_ge (tgt := 66) hx hb dX2_costWith_10 (by decide) (by unfold Rng; omega) (fun c_10 => ?_) (fun c_10 => ?_)
  · have hie : ma_sets S = i := by omega
    refine lv_iload_n hx hb dX2_costWith_66 rfl (lv_at hl 1 rfl) ?_
    exact zr_ret hx hb hr hlocks (by unfold ma_costWith; rw [hie]) dX2_costWith_67
  · refine zr_join (α := Int) (fun x => F0 m 32 ls (.int (iZ x) :: [])) (fun x => x = ma_cwv S n i) (fun J => ?_) (fun v e_v => ?_)
    · refine lv_aload_n hx hb dX2_costWith_13 rfl (lv_at hl 2 rfl) ?_
      refine lv_iload_n hx hb dX2_costWith_14 rfl (lv_at hl 0 rfl) ?_
      refine zr_callV (rest := []) (As := [.int (iZ (((i : Nat) : Int)))]) G.1 (mM_count l D dB dI h S hok i (by omega)) (lw_V q252 q254 qs19 q22 q255) hd_X2_count ⟨⟨rfl, rfl⟩, Nat.le_of_ble_eq_true rfl, Nat.le_of_ble_eq_true rfl⟩ G.2 hP (wM_0 ..) rfl rfl hl.1 rfl (Nat.le_of_ble_eq_true rfl) dX2_costWith_15 ⟨Nat.zero_le _, Nat.zero_le _⟩ ?_
      refine lv_iload_n hx hb dX2_costWith_18 rfl (lv_at hl 3 rfl) ?_
      refine zr_icmp_ne (tgt := 30) hx hb dX2_costWith_19 (by decide) (by unfold Rng; omega) (fun c_19 => ?_) (fun c_19 => ?_)
      · refine zr_ldc (n := -1000000) hx hb G.1.2.2.2.1 (G.1.2.2.2.2 _ q247) dX2_costWith_30 (by decide) ?_
        exact J _ (by unfold ma_cwv; rw [if_neg (by omega)])
      · refine lv_aload_n hx hb dX2_costWith_22 rfl (lv_at hl 2 rfl) ?_
        refine lv_iload_n hx hb dX2_costWith_23 rfl (lv_at hl 0 rfl) ?_
        refine zr_callV (rest := []) (As := [.int (iZ (((i : Nat) : Int)))]) G.1 (mM_costOf l D dB dI h S hok i (by omega)) (lw_V q235 q237 qs15 q22 q238) hd_X2_costOf ⟨⟨rfl, rfl⟩, Nat.le_of_ble_eq_true rfl, Nat.le_of_ble_eq_true rfl⟩ G.2 hP (wM_0 ..) rfl rfl hl.1 rfl (Nat.le_of_ble_eq_true rfl) dX2_costWith_24 ⟨Nat.zero_le _, Nat.zero_le _⟩ ?_
        refine lv_goto (tgt := 32) hx hb dX2_costWith_27 (by decide) ?_
        exact J _ (by unfold ma_cwv; rw [if_pos (by omega)])
    · refine zr_eq (y := ma_cwv S n i) (e_v) ?_
      refine lv_istore (lv' := [(4, .int (iZ (ma_cwv S n i))), (3, .int (iZ (((i : Nat) : Int)))), (2, .int (iZ (ma_cw S n (i)))), (0, .ref (h 0)), (1, .int (iZ (n)))]) hx hb dX2_costWith_32 hl (by decide) rfl (fun ls hl => ?_)
      refine zr_join (α := Int) (fun x => F0 m 59 ls (.int (iZ x) :: [])) (fun x => x = ma_cw S n (i + 1)) (fun J => ?_) (fun y e_y => ?_)
      · refine lv_iload hx hb dX2_costWith_34 (lv_at hl 0 rfl) ?_
        refine zr_ldc (n := -1000000) hx hb G.1.2.2.2.1 (G.1.2.2.2.2 _ q247) dX2_costWith_36 (by decide) ?_
        refine zr_icmp_eq (tgt := 58) hx hb dX2_costWith_38 (by decide) (by unfold Rng; omega) (fun c_38 => ?_) (fun c_38 => ?_)
        · refine lv_iload_n hx hb dX2_costWith_58 rfl (lv_at hl 2 rfl) ?_
          exact J _ (by rw [cw_step, if_neg (by omega)])
        · refine lv_iload_n hx hb dX2_costWith_41 rfl (lv_at hl 2 rfl) ?_
          refine zr_ldc (n := -1000000) hx hb G.1.2.2.2.1 (G.1.2.2.2.2 _ q247) dX2_costWith_42 (by decide) ?_
          refine zr_icmp_eq (tgt := 53) hx hb dX2_costWith_44 (by decide) (by unfold Rng; omega) (fun c_44 => ?_) (fun c_44 => ?_)
          · refine lv_iload hx hb dX2_costWith_53 (lv_at hl 0 rfl) ?_
            refine lv_goto (tgt := 59) hx hb dX2_costWith_55 (by decide) ?_
            exact J _ (by rw [cw_step, if_pos (by omega)])
          · refine lv_iload hx hb dX2_costWith_47 (lv_at hl 0 rfl) ?_
            refine lv_iload_n hx hb dX2_costWith_49 rfl (lv_at hl 2 rfl) ?_
            refine zr_icmp_ge (tgt := 58) hx hb dX2_costWith_50 (by decide) (by unfold Rng; omega) (fun c_50 => ?_) (fun c_50 => ?_)
            · refine lv_iload_n hx hb dX2_costWith_58 rfl (lv_at hl 2 rfl) ?_
              exact J _ (by rw [cw_step, if_neg (by omega)])
            · refine lv_iload hx hb dX2_costWith_53 (lv_at hl 0 rfl) ?_
              refine lv_goto (tgt := 59) hx hb dX2_costWith_55 (by decide) ?_
              exact J _ (by rw [cw_step, if_pos (by omega)])
      · refine zr_eq (y := ma_cw S n (i + 1)) (e_y) ?_
        refine lv_istore_n (lv' := [(2, .int (iZ (ma_cw S n (i + 1)))), (4, .int (iZ (ma_cwv S n i))), (3, .int (iZ (((i : Nat) : Int)))), (0, .ref (h 0)), (1, .int (iZ (n)))]) hx hb dX2_costWith_59 rfl hl (by decide) rfl (fun ls hl => ?_)
        refine zr_incN (lv' := [(3, .int (iZ (((i + 1 : Nat) : Int)))), (2, .int (iZ (ma_cw S n (i + 1)))), (4, .int (iZ (ma_cwv S n i))), (0, .ref (h 0)), (1, .int (iZ (n)))]) hx hb dX2_costWith_60 hl 2 rfl (by decide) rfl (fun ls hl => ?_)
        refine lv_goto (tgt := 5) hx hb dX2_costWith_63 (by decide) ?_
        exact ih ls (by omega) trivial (lv_sub hl [0, 1, 3, 4] rfl)
set_option maxHeartbeats 4000000 in
set_option maxRecDepth 100000 in
/-- costBreaking -/
theorem mM_costBreaking (l : Launch) (D : va_G) (dB dI : ClassId) (h : Nat → Nat) (S : Par) (hok : pb_Ok S) (i : Int) (hi : Rng i) : RO l yX2_costBreaking cX2_costBreaking 3 (some .int) ({ frames := 4, cells := 0, slots := 0, locals := 100 }) D (tyA dB dI) (wM dI h S) [.ref (h 0), .int (iZ (i))] (iZ (ma_costBreaking S i)) := by
  refine RO.mk (by decide) (Nat.le_of_ble_eq_true rfl) ?_
  intro pr e s m below meth c ls G hr hlocks hP hl
  have G : CM pr m c cX2_costBreaking 3 s _ D dB dI := G
  have hx := G.1.1
  have hb := G.1.2.1
  have hl : lv_has ls 3 [(0, .ref (h 0)), (1, .int (iZ (i)))] := hl
  have hc10 := hok.2.2.1
  have his := isI_spec S i
  have hi2 := hi
  unfold Rng at hi2
  have hbb := best_bd hok (fun set => decide (pb_bt set i.toNat = 1))
  refine zr_join (α := Int) (fun x => F0 m 30 ls (.int (iZ x) :: [])) (fun x => x = (if i < 0 ∨ (S.c : Int) - 1 ≤ i then -1 else ma_best S (fun set => decide (pb_bt set i.toNat = 1)))) (fun J => ?_) (fun bb e_bb => ?_)
  · refine lv_aload_n hx hb dX2_costBreaking_0 rfl (lv_at hl 0 rfl) ?_
    refine lv_iload_n hx hb dX2_costBreaking_1 rfl (lv_at hl 1 rfl) ?_
    refine zr_callV (rest := []) (As := [.int (iZ (i))]) G.1 (mM_is l D dB dI h S hok i hi) (lw_V q211 q213 qs12 q22 q214) hd_X2_is ⟨⟨rfl, rfl⟩, Nat.le_of_ble_eq_true rfl, Nat.le_of_ble_eq_true rfl⟩ G.2 hP (wM_0 ..) rfl rfl hl.1 rfl (Nat.le_of_ble_eq_true rfl) dX2_costBreaking_2 ⟨Nat.zero_le _, Nat.zero_le _⟩ ?_
    refine zr_if_eq (tgt := 29) hx hb dX2_costBreaking_5 (by decide) (by unfold Rng; omega) (fun c_5 => ?_) (fun c_5 => ?_)
    · refine zr_const hx hb dX2_costBreaking_29 ?_
      exact J _ (by rw [if_pos (by omega)])
    · refine lv_iload_n hx hb dX2_costBreaking_8 rfl (lv_at hl 1 rfl) ?_
      refine lv_aload_n hx hb dX2_costBreaking_9 rfl (lv_at hl 0 rfl) ?_
      refine gM_size G hP dX2_costBreaking_10 ?_
      refine zr_const hx hb dX2_costBreaking_13 ?_
      refine zr_sub hx hb dX2_costBreaking_14 ?_
      refine zr_icmp_ge (tgt := 29) hx hb dX2_costBreaking_15 (by decide) (by unfold Rng; omega) (fun c_15 => ?_) (fun c_15 => ?_)
      · refine zr_const hx hb dX2_costBreaking_29 ?_
        exact J _ (by rw [if_pos (by omega)])
      · refine lv_aload_n hx hb dX2_costBreaking_18 rfl (lv_at hl 0 rfl) ?_
        refine zr_const hx hb dX2_costBreaking_19 ?_
        refine lv_iload_n hx hb dX2_costBreaking_20 rfl (lv_at hl 1 rfl) ?_
        refine lv_ishl hx hb dX2_costBreaking_21 ?_
        refine zr_top (y := iZ (((2 ^ i.toNat : Nat) : Int))) (by rw [show iZ i = iZ ((i.toNat : Nat) : Int) by rw [Int.toNat_of_nonneg (by omega)]]; exact iZ_shl _ (by omega)) ?_
        refine zr_const hx hb dX2_costBreaking_22 ?_
        refine zr_callV (rest := []) (As := [.int (iZ (((2 ^ i.toNat : Nat) : Int))), .int (iZ (0))]) G.1 (mM_best l D dB dI h S hok (iZ ((2 ^ i.toNat : Nat) : Int)) (iZ 0) (fun set => decide (pb_bt set i.toNat = 1)) (bk_brk (by omega))) (lw_V q227 q229 qs13 q22 q230) hd_X2_best ⟨⟨rfl, rfl⟩, Nat.le_of_ble_eq_true rfl, Nat.le_of_ble_eq_true rfl⟩ G.2 hP (wM_0 ..) rfl rfl hl.1 rfl (Nat.le_of_ble_eq_true rfl) dX2_costBreaking_23 ⟨Nat.zero_le _, Nat.zero_le _⟩ ?_
        refine lv_goto (tgt := 30) hx hb dX2_costBreaking_26 (by decide) ?_
        exact J _ (by rw [if_neg (by omega)])
  · have hbb2 : -1 ≤ bb ∧ bb < 512 := by
      rw [e_bb]
      split
      · omega
      · exact hbb
    refine lv_istore_n (lv' := [(2, .int (iZ (bb))), (0, .ref (h 0)), (1, .int (iZ (i)))]) hx hb dX2_costBreaking_30 rfl hl (by decide) rfl (fun ls hl => ?_)
    refine lv_iload_n hx hb dX2_costBreaking_31 rfl (lv_at hl 0 rfl) ?_
    refine zr_if_ge (tgt := 40) hx hb dX2_costBreaking_32 (by decide) (by unfold Rng; omega) (fun c_32 => ?_) (fun c_32 => ?_)
    · have hg : ¬ (i < 0 ∨ (S.c : Int) - 1 ≤ i) := fun z => by rw [if_pos z] at e_bb; omega
      rw [if_neg hg] at e_bb
      refine lv_aload_n hx hb dX2_costBreaking_40 rfl (lv_at hl 1 rfl) ?_
      refine lv_iload_n hx hb dX2_costBreaking_41 rfl (lv_at hl 0 rfl) ?_
      refine zr_eq (y := ((bb.toNat : Nat) : Int)) (by omega) ?_
      refine zr_callV (rest := []) (As := [.int (iZ (((bb.toNat : Nat) : Int)))]) G.1 (mM_costOf l D dB dI h S hok bb.toNat (by omega)) (lw_V q235 q237 qs15 q22 q238) hd_X2_costOf ⟨⟨rfl, rfl⟩, Nat.le_of_ble_eq_true rfl, Nat.le_of_ble_eq_true rfl⟩ G.2 hP (wM_0 ..) rfl rfl hl.1 rfl (Nat.le_of_ble_eq_true rfl) dX2_costBreaking_42 ⟨Nat.zero_le _, Nat.zero_le _⟩ ?_
      exact zr_ret hx hb hr hlocks (by unfold ma_costBreaking ma_costB; rw [if_neg hg, if_neg (by omega), ← e_bb]) dX2_costBreaking_45
    · refine zr_ldc (n := -1000000) hx hb G.1.2.2.2.1 (G.1.2.2.2.2 _ q247) dX2_costBreaking_35 (by decide) ?_
      refine lv_goto (tgt := 45) hx hb dX2_costBreaking_37 (by decide) ?_
      exact zr_ret hx hb hr hlocks (by 
        unfold ma_costBreaking
        split
        · rfl
        · rename_i z
          rw [if_neg z] at e_bb
          unfold ma_costB
          rw [if_pos (by omega)]) dX2_costBreaking_45
set_option maxHeartbeats 4000000 in
set_option maxRecDepth 100000 in
/-- costKeeping -/
theorem mM_costKeeping (l : Launch) (D : va_G) (dB dI : ClassId) (h : Nat → Nat) (S : Par) (hok : pb_Ok S) (i : Int) (hi : Rng i) : RO l yX2_costKeeping cX2_costKeeping 3 (some .int) ({ frames := 4, cells := 0, slots := 0, locals := 100 }) D (tyA dB dI) (wM dI h S) [.ref (h 0), .int (iZ (i))] (iZ (ma_costKeeping S i)) := by
  refine RO.mk (by decide) (Nat.le_of_ble_eq_true rfl) ?_
  intro pr e s m below meth c ls G hr hlocks hP hl
  have G : CM pr m c cX2_costKeeping 3 s _ D dB dI := G
  have hx := G.1.1
  have hb := G.1.2.1
  have hl : lv_has ls 3 [(0, .ref (h 0)), (1, .int (iZ (i)))] := hl
  have hc10 := hok.2.2.1
  have his := isI_spec S i
  have hi2 := hi
  unfold Rng at hi2
  have hbb := best_bd hok (fun set => decide (pb_bt set i.toNat = 0))
  refine zr_join (α := Int) (fun x => F0 m 30 ls (.int (iZ x) :: [])) (fun x => x = (if i < 0 ∨ (S.c : Int) - 1 ≤ i then -1 else ma_best S (fun set => decide (pb_bt set i.toNat = 0)))) (fun J => ?_) (fun bb e_bb => ?_)
  · refine lv_aload_n hx hb dX2_costKeeping_0 rfl (lv_at hl 0 rfl) ?_
    refine lv_iload_n hx hb dX2_costKeeping_1 rfl (lv_at hl 1 rfl) ?_
    refine zr_callV (rest := []) (As := [.int (iZ (i))]) G.1 (mM_is l D dB dI h S hok i hi) (lw_V q211 q213 qs12 q22 q214) hd_X2_is ⟨⟨rfl, rfl⟩, Nat.le_of_ble_eq_true rfl, Nat.le_of_ble_eq_true rfl⟩ G.2 hP (wM_0 ..) rfl rfl hl.1 rfl (Nat.le_of_ble_eq_true rfl) dX2_costKeeping_2 ⟨Nat.zero_le _, Nat.zero_le _⟩ ?_
    refine zr_if_eq (tgt := 29) hx hb dX2_costKeeping_5 (by decide) (by unfold Rng; omega) (fun c_5 => ?_) (fun c_5 => ?_)
    · refine zr_const hx hb dX2_costKeeping_29 ?_
      exact J _ (by rw [if_pos (by omega)])
    · refine lv_iload_n hx hb dX2_costKeeping_8 rfl (lv_at hl 1 rfl) ?_
      refine lv_aload_n hx hb dX2_costKeeping_9 rfl (lv_at hl 0 rfl) ?_
      refine gM_size G hP dX2_costKeeping_10 ?_
      refine zr_const hx hb dX2_costKeeping_13 ?_
      refine zr_sub hx hb dX2_costKeeping_14 ?_
      refine zr_icmp_ge (tgt := 29) hx hb dX2_costKeeping_15 (by decide) (by unfold Rng; omega) (fun c_15 => ?_) (fun c_15 => ?_)
      · refine zr_const hx hb dX2_costKeeping_29 ?_
        exact J _ (by rw [if_pos (by omega)])
      · refine lv_aload_n hx hb dX2_costKeeping_18 rfl (lv_at hl 0 rfl) ?_
        refine zr_const hx hb dX2_costKeeping_19 ?_
        refine zr_const hx hb dX2_costKeeping_20 ?_
        refine lv_iload_n hx hb dX2_costKeeping_21 rfl (lv_at hl 1 rfl) ?_
        refine lv_ishl hx hb dX2_costKeeping_22 ?_
        refine zr_top (y := iZ (((2 ^ i.toNat : Nat) : Int))) (by rw [show iZ i = iZ ((i.toNat : Nat) : Int) by rw [Int.toNat_of_nonneg (by omega)]]; exact iZ_shl _ (by omega)) ?_
        refine zr_callV (rest := []) (As := [.int (iZ (0)), .int (iZ (((2 ^ i.toNat : Nat) : Int)))]) G.1 (mM_best l D dB dI h S hok (iZ 0) (iZ ((2 ^ i.toNat : Nat) : Int)) (fun set => decide (pb_bt set i.toNat = 0)) (bk_keep (by omega))) (lw_V q227 q229 qs13 q22 q230) hd_X2_best ⟨⟨rfl, rfl⟩, Nat.le_of_ble_eq_true rfl, Nat.le_of_ble_eq_true rfl⟩ G.2 hP (wM_0 ..) rfl rfl hl.1 rfl (Nat.le_of_ble_eq_true rfl) dX2_costKeeping_23 ⟨Nat.zero_le _, Nat.zero_le _⟩ ?_
        refine lv_goto (tgt := 30) hx hb dX2_costKeeping_26 (by decide) ?_
        exact J _ (by rw [if_neg (by omega)])
  · have hbb2 : -1 ≤ bb ∧ bb < 512 := by
      rw [e_bb]
      split
      · omega
      · exact hbb
    refine lv_istore_n (lv' := [(2, .int (iZ (bb))), (0, .ref (h 0)), (1, .int (iZ (i)))]) hx hb dX2_costKeeping_30 rfl hl (by decide) rfl (fun ls hl => ?_)
    refine lv_iload_n hx hb dX2_costKeeping_31 rfl (lv_at hl 0 rfl) ?_
    refine zr_if_ge (tgt := 40) hx hb dX2_costKeeping_32 (by decide) (by unfold Rng; omega) (fun c_32 => ?_) (fun c_32 => ?_)
    · have hg : ¬ (i < 0 ∨ (S.c : Int) - 1 ≤ i) := fun z => by rw [if_pos z] at e_bb; omega
      rw [if_neg hg] at e_bb
      refine lv_aload_n hx hb dX2_costKeeping_40 rfl (lv_at hl 1 rfl) ?_
      refine lv_iload_n hx hb dX2_costKeeping_41 rfl (lv_at hl 0 rfl) ?_
      refine zr_eq (y := ((bb.toNat : Nat) : Int)) (by omega) ?_
      refine zr_callV (rest := []) (As := [.int (iZ (((bb.toNat : Nat) : Int)))]) G.1 (mM_costOf l D dB dI h S hok bb.toNat (by omega)) (lw_V q235 q237 qs15 q22 q238) hd_X2_costOf ⟨⟨rfl, rfl⟩, Nat.le_of_ble_eq_true rfl, Nat.le_of_ble_eq_true rfl⟩ G.2 hP (wM_0 ..) rfl rfl hl.1 rfl (Nat.le_of_ble_eq_true rfl) dX2_costKeeping_42 ⟨Nat.zero_le _, Nat.zero_le _⟩ ?_
      exact zr_ret hx hb hr hlocks (by unfold ma_costKeeping ma_costB; rw [if_neg hg, if_neg (by omega), ← e_bb]) dX2_costKeeping_45
    · refine zr_ldc (n := -1000000) hx hb G.1.2.2.2.1 (G.1.2.2.2.2 _ q247) dX2_costKeeping_35 (by decide) ?_
      refine lv_goto (tgt := 45) hx hb dX2_costKeeping_37 (by decide) ?_
      exact zr_ret hx hb hr hlocks (by 
        unfold ma_costKeeping
        split
        · rfl
        · rename_i z
          rw [if_neg z] at e_bb
          unfold ma_costB
          rw [if_pos (by omega)]) dX2_costKeeping_45
set_option maxHeartbeats 4000000 in
set_option maxRecDepth 100000 in
/-- choices -/
theorem mM_choices (l : Launch) (D : va_G) (dB dI : ClassId) (h : Nat → Nat) (S : Par) (hok : pb_Ok S) : RO l yX2_choices cX2_choices 4 (some .int) ({ frames := 5, cells := 0, slots := 0, locals := 121 }) D (tyA dB dI) (wM dI h S) [.ref (h 0)] (iZ (ma_choices S)) := by
  refine RO.mk (by decide) (Nat.le_of_ble_eq_true rfl) ?_
  intro pr e s m below meth c ls G hr hlocks hP hl
  have G : CM pr m c cX2_choices 4 s _ D dB dI := G
  have hx := G.1.1
  have hb := G.1.2.1
  have hl : lv_has ls 4 [(0, .ref (h 0))] := hl
  have hc10 := hok.2.2.1
  have hsets := sets_bd hok
  have hcb : ma_cost S = -1000000 ∨ (-400 ≤ ma_cost S ∧ ma_cost S ≤ 37400) := cost_bd hok ma_all
  refine lv_aload_n hx hb dX2_choices_0 rfl (lv_at hl 0 rfl) ?_
  refine zr_callV (rest := []) (As := []) G.1 (mM_cost l D dB dI h S hok) (lw_V q289 q224 q225 q22 q226) hd_X2_cost ⟨⟨rfl, rfl⟩, Nat.le_of_ble_eq_true rfl, Nat.le_of_ble_eq_true rfl⟩ G.2 hP (wM_0 ..) rfl rfl hl.1 rfl (Nat.le_of_ble_eq_true rfl) dX2_choices_1 ⟨Nat.zero_le _, Nat.zero_le _⟩ ?_
  refine lv_istore_n (lv' := [(1, .int (iZ (ma_cost S))), (0, .ref (h 0))]) hx hb dX2_choices_4 rfl hl (by decide) rfl (fun ls hl => ?_)
  refine zr_const hx hb dX2_choices_5 ?_
  refine zr_eq (y := ma_ch S (ma_cost S) 0) (rfl) ?_
  refine lv_istore_n (lv' := [(2, .int (iZ (ma_ch S (ma_cost S) 0))), (1, .int (iZ (ma_cost S))), (0, .ref (h 0))]) hx hb dX2_choices_6 rfl hl (by decide) rfl (fun ls hl => ?_)
  refine zr_const hx hb dX2_choices_7 ?_
  refine zr_eq (y := ((0 : Nat) : Int)) (rfl) ?_
  refine lv_istore_n (lv' := [(3, .int (iZ (((0 : Nat) : Int)))), (2, .int (iZ (ma_ch S (ma_cost S) 0))), (1, .int (iZ (ma_cost S))), (0, .ref (h 0))]) hx hb dX2_choices_8 rfl hl (by decide) rfl (fun ls hl => ?_)
  refine zr_loop (pc := 9) (nL := 4) (ma_sets S) (fun i => [(3, .int (iZ ((i : Nat) : Int))), (2, .int (iZ (ma_ch S (ma_cost S) (i)))), (0, .ref (h 0)), (1, .int (iZ (ma_cost S)))]) (fun i => ma_cost S = -1000000 → i = 0) ?_ 0 ls (Nat.zero_le _) (fun _ => rfl) (lv_sub hl [0, 1, 3, 2] rfl)
  intro i ls hi hC hl ih
  have hl : lv_has ls 4 [(3, .int (iZ ((i : Nat) : Int))), (2, .int (iZ (ma_ch S (ma_cost S) (i)))), (0, .ref (h 0)), (1, .int (iZ (ma_cost S)))] := hl
  have hco := co_bd hok i
  refine lv_iload_n hx hb dX2_choices_9 rfl (lv_at hl 0 rfl) ?_
  refine lv_aload_n hx hb dX2_choices_10 rfl (lv_at hl 2 rfl) ?_
  refine zr_callV (rest := [.int (iZ (((i : Nat) : Int)))]) (As := []) G.1 (mM_sets l D dB dI h S hok) (lw_V q231 q233 qs14 q22 q234) hd_X2_sets ⟨⟨rfl, rfl⟩, Nat.le_of_ble_eq_true rfl, Nat.le_of_ble_eq_true rfl⟩ G.2 hP (wM_0 ..) rfl rfl hl.1 rfl (Nat.le_of_ble_eq_true rfl) dX2_choices_11 ⟨Nat.zero_le _, Nat.zero_le _⟩ ?_
  refine zr_icmp_ge (tgt := 46) hx hb dX2_choices_14 (by decide) (by unfold Rng; omega) (fun c_14 => ?_) (fun c_14 => ?_)
  · have hans : ma_choices S = ma_ch S (ma_cost S) (i) := by
      unfold ma_choices
      rw [if_neg (fun z => by have := hC z; omega), show ma_sets S = i by omega]
    refine lv_iload_n hx hb dX2_choices_46 rfl (lv_at hl 1 rfl) ?_
    exact zr_ret hx hb hr hlocks (by rw [hans]) dX2_choices_47
  · refine lv_iload_n hx hb dX2_choices_17 rfl (lv_at hl 3 rfl) ?_
    refine zr_ldc (n := -1000000) hx hb G.1.2.2.2.1 (G.1.2.2.2.2 _ q247) dX2_choices_18 (by decide) ?_
    refine zr_icmp_eq (tgt := 46) hx hb dX2_choices_20 (by decide) (by unfold Rng; omega) (fun c_20 => ?_) (fun c_20 => ?_)
    · have hans : ma_choices S = ma_ch S (ma_cost S) (i) := by
        unfold ma_choices
        rw [if_pos c_20, hC c_20]
        rfl
      refine lv_iload_n hx hb dX2_choices_46 rfl (lv_at hl 1 rfl) ?_
      exact zr_ret hx hb hr hlocks (by rw [hans]) dX2_choices_47
    · refine zr_join (α := Int) (fun x => F0 m 39 ls (.int (iZ x) :: [])) (fun x => x = ma_ch S (ma_cost S) (i + 1)) (fun J => ?_) (fun y e_y => ?_)
      · refine lv_aload_n hx hb dX2_choices_23 rfl (lv_at hl 2 rfl) ?_
        refine lv_iload_n hx hb dX2_choices_24 rfl (lv_at hl 0 rfl) ?_
        refine zr_callV (rest := []) (As := [.int (iZ (((i : Nat) : Int)))]) G.1 (mM_costOf l D dB dI h S hok i (by omega)) (lw_V q235 q237 qs15 q22 q238) hd_X2_costOf ⟨⟨rfl, rfl⟩, Nat.le_of_ble_eq_true rfl, Nat.le_of_ble_eq_true rfl⟩ G.2 hP (wM_0 ..) rfl rfl hl.1 rfl (Nat.le_of_ble_eq_true rfl) dX2_choices_25 ⟨Nat.zero_le _, Nat.zero_le _⟩ ?_
        refine lv_iload_n hx hb dX2_choices_28 rfl (lv_at hl 3 rfl) ?_
        refine zr_icmp_ne (tgt := 38) hx hb dX2_choices_29 (by decide) (by unfold Rng; omega) (fun c_29 => ?_) (fun c_29 => ?_)
        · refine lv_iload_n hx hb dX2_choices_38 rfl (lv_at hl 1 rfl) ?_
          exact J _ (by rw [ch_step, if_neg (by omega)])
        · refine lv_iload_n hx hb dX2_choices_32 rfl (lv_at hl 1 rfl) ?_
          refine zr_const hx hb dX2_choices_33 ?_
          refine zr_add hx hb dX2_choices_34 ?_
          refine lv_goto (tgt := 39) hx hb dX2_choices_35 (by decide) ?_
          exact J _ (by rw [ch_step, if_pos (by omega)])
      · refine zr_eq (y := ma_ch S (ma_cost S) (i + 1)) (e_y) ?_
        refine lv_istore_n (lv' := [(2, .int (iZ (ma_ch S (ma_cost S) (i + 1)))), (3, .int (iZ (((i : Nat) : Int)))), (0, .ref (h 0)), (1, .int (iZ (ma_cost S)))]) hx hb dX2_choices_39 rfl hl (by decide) rfl (fun ls hl => ?_)
        refine zr_incN (lv' := [(3, .int (iZ (((i + 1 : Nat) : Int)))), (2, .int (iZ (ma_ch S (ma_cost S) (i + 1)))), (0, .ref (h 0)), (1, .int (iZ (ma_cost S)))]) hx hb dX2_choices_40 hl 1 rfl (by decide) rfl (fun ls hl => ?_)
        refine lv_goto (tgt := 9) hx hb dX2_choices_43 (by decide) ?_
        exact ih ls (by omega) (fun z => absurd z c_20) (lv_sub hl [0, 1, 2, 3] rfl)
set_option maxHeartbeats 4000000 in
set_option maxRecDepth 100000 in
/-- words -/
theorem mM_words (l : Launch) (D : va_G) (dB dI : ClassId) (h : Nat → Nat) (S : Par)  : RO l yX2_words cX2_words 1 (some .int) ({ frames := 0, cells := 0, slots := 0, locals := 0 }) D (tyA dB dI) (wM dI h S) [.ref (h 0)] (iZ ((S.c : Int))) := by
  refine RO.mk (by decide) (Nat.le_of_ble_eq_true rfl) ?_
  intro pr e s m below meth c ls G hr hlocks hP hl
  have G : CM pr m c cX2_words 1 s _ D dB dI := G
  have hx := G.1.1
  have hb := G.1.2.1
  have hl : lv_has ls 1 [(0, .ref (h 0))] := hl
  refine lv_aload_n hx hb dX2_words_0 rfl (lv_at hl 0 rfl) ?_
  refine gM_size G hP dX2_words_1 ?_
  exact zr_ret hx hb hr hlocks (by rfl) dX2_words_4
set_option maxHeartbeats 4000000 in
set_option maxRecDepth 100000 in
/-- word -/
theorem mM_word (l : Launch) (D : va_G) (dB dI : ClassId) (h : Nat → Nat) (S : Par) (hok : pb_Ok S) (a b : Int) (ha : Rng a) (hb1 : Rng b) : WRi l yX2_word cX2_word 3 (some .int) ({ frames := 1, cells := 0, slots := 0, locals := 22 }) D (tyA dB dI) (wM dI h) S [.ref (h 0), .int (iZ (a)), .int (iZ (b))] (fun r u => r = iZ (op_wordR S a b) ∧ op_wordS S a b = u) := by
  refine WRi.mk (by decide) (Nat.le_of_ble_eq_true rfl) (wM_adr dI h _) ?_
  intro pr e s m below meth c ls A G hr hlocks hA hD hS hP hl
  have G : CM pr m c cX2_word 3 s _ D dB dI := G
  have hDD : ∀ S, va_D A (wM dI h S) := hD
  have hx := G.1.1
  have hb := G.1.2.1
  have hl : lv_has ls 3 [(0, .ref (h 0)), (1, .int (iZ (a))), (2, .int (iZ (b)))] := hl
  have hc10 := hok.2.2.1
  have h01 := okI_01 a b
  refine lv_aload_n hx hb dX2_word_0 rfl (lv_at hl 0 rfl) ?_
  refine lv_iload_n hx hb dX2_word_1 rfl (lv_at hl 1 rfl) ?_
  refine lv_iload_n hx hb dX2_word_2 rfl (lv_at hl 2 rfl) ?_
  refine zr_callV (rest := []) (As := [.int (iZ (a)), .int (iZ (b))]) G.1 (mM_good l D dB dI h S a b ha hb1) (lw_V q199 q201 qs11 q22 q202) hd_X2_good ⟨⟨rfl, rfl⟩, Nat.le_of_ble_eq_true rfl, Nat.le_of_ble_eq_true rfl⟩ G.2 hP (wM_0 ..) rfl rfl hl.1 rfl (Nat.le_of_ble_eq_true rfl) dX2_word_3 ⟨Nat.zero_le _, Nat.zero_le _⟩ ?_
  refine zr_if_ne (tgt := 11) hx hb dX2_word_6 (by decide) (by unfold Rng; omega) (fun c_6 => ?_) (fun c_6 => ?_)
  · refine lv_aload_n hx hb dX2_word_11 rfl (lv_at hl 0 rfl) ?_
    refine gM_size G hP dX2_word_12 ?_
    refine zr_bipush hx hb dX2_word_15 (by decide) ?_
    refine zr_icmp_lt (tgt := 23) hx hb dX2_word_17 (by decide) (by unfold Rng; omega) (fun c_17 => ?_) (fun c_17 => ?_)
    · refine lv_aload_n hx hb dX2_word_23 rfl (lv_at hl 0 rfl) ?_
      refine gM_wide G hP dX2_word_24 ?_
      refine lv_aload_n hx hb dX2_word_27 rfl (lv_at hl 0 rfl) ?_
      refine gM_size G hP dX2_word_28 ?_
      refine lv_iload_n hx hb dX2_word_31 rfl (lv_at hl 1 rfl) ?_
      refine sM_wide G hDD hS hP (S.c) (by omega) (by omega) dX2_word_32 (fun H locs hP hS => ?_)
      generalize e_Sa : Par.of S.w S.e S.c (updZ S.W (S.c) (a)) S.P = Sa at hP
      refine lv_aload_n hx hb dX2_word_33 rfl (lv_at hl 0 rfl) ?_
      refine gM_price G hP dX2_word_34 ?_
      refine lv_aload_n hx hb dX2_word_37 rfl (lv_at hl 0 rfl) ?_
      refine gM_size G hP dX2_word_38 ?_
      refine lv_iload_n hx hb dX2_word_41 rfl (lv_at hl 2 rfl) ?_
      refine sM_price G hDD hS hP (S.c) (by subst e_Sa; rfl) (by omega) dX2_word_42 (fun H locs hP hS => ?_)
      generalize e_Sb : Par.of Sa.w Sa.e Sa.c Sa.W (updZ Sa.P (S.c) (b)) = Sb at hP
      refine lv_aload_n hx hb dX2_word_43 rfl (lv_at hl 0 rfl) ?_
      refine lv_dup hx hb dX2_word_44 rfl ?_
      refine gM_size G hP dX2_word_45 ?_
      refine zr_const hx hb dX2_word_48 ?_
      refine zr_add hx hb dX2_word_49 ?_
      refine zr_eq (y := ((S.c + 1 : Nat) : Int)) (by subst e_Sb; subst e_Sa; rfl) ?_
      refine pM_size (x := S.c + 1) G hDD hS hP dX2_word_50 (fun H locs hP hS => ?_)
      generalize e_S3 : Par.of Sb.w Sb.e (S.c + 1) Sb.W Sb.P = S3 at hP
      refine lv_aload_n hx hb dX2_word_53 rfl (lv_at hl 0 rfl) ?_
      refine gM_size G hP dX2_word_54 ?_
      refine zr_const hx hb dX2_word_57 ?_
      refine zr_sub hx hb dX2_word_58 ?_
      exact wr_ret hx hb hr hlocks hS S3 hP ⟨by subst e_S3; subst e_Sb; subst e_Sa; unfold op_wordR; rw [if_pos (by omega), if_pos (by omega)]; congr 1; show ((S.c + 1 : Nat) : Int) - 1 = S.c; omega, by subst e_S3; subst e_Sb; subst e_Sa; unfold op_wordS; rw [if_pos (by omega)]; rfl⟩ dX2_word_59
    · refine zr_bipush hx hb dX2_word_20 (by decide) ?_
      exact wr_ret hx hb hr hlocks hS S hP ⟨by unfold op_wordR; rw [if_pos (by omega), if_neg (by omega)], by unfold op_wordS; rw [if_neg (by omega)]⟩ dX2_word_22
  · refine zr_const hx hb dX2_word_9 ?_
    exact wr_ret hx hb hr hlocks hS S hP ⟨by unfold op_wordR; rw [if_neg (by omega)], by unfold op_wordS; rw [if_neg (by omega)]⟩ dX2_word_10
set_option maxHeartbeats 4000000 in
set_option maxRecDepth 100000 in
/-- back -/
theorem mM_back (l : Launch) (D : va_G) (dB dI : ClassId) (h : Nat → Nat) (S : Par) (hok : pb_Ok S) : WRi l yX2_back cX2_back 1 (some .int) ({ frames := 0, cells := 0, slots := 0, locals := 0 }) D (tyA dB dI) (wM dI h) S [.ref (h 0)] (fun r u => r = iZ (op_backR S) ∧ op_backS S = u) := by
  refine WRi.mk (by decide) (Nat.le_of_ble_eq_true rfl) (wM_adr dI h _) ?_
  intro pr e s m below meth c ls A G hr hlocks hA hD hS hP hl
  have G : CM pr m c cX2_back 1 s _ D dB dI := G
  have hDD : ∀ S, va_D A (wM dI h S) := hD
  have hx := G.1.1
  have hb := G.1.2.1
  have hl : lv_has ls 1 [(0, .ref (h 0))] := hl
  have hc10 := hok.2.2.1
  refine lv_aload_n hx hb dX2_back_0 rfl (lv_at hl 0 rfl) ?_
  refine gM_size G hP dX2_back_1 ?_
  refine zr_if_ne (tgt := 9) hx hb dX2_back_4 (by decide) (by unfold Rng; omega) (fun c_4 => ?_) (fun c_4 => ?_)
  · refine lv_aload_n hx hb dX2_back_9 rfl (lv_at hl 0 rfl) ?_
    refine lv_dup hx hb dX2_back_10 rfl ?_
    refine gM_size G hP dX2_back_11 ?_
    refine zr_const hx hb dX2_back_14 ?_
    refine zr_sub hx hb dX2_back_15 ?_
    refine zr_eq (y := ((S.c - 1 : Nat) : Int)) (by omega) ?_
    refine pM_size (x := S.c - 1) G hDD hS hP dX2_back_16 (fun H locs hP hS => ?_)
    generalize e_S1 : Par.of S.w S.e (S.c - 1) S.W S.P = S1 at hP
    refine lv_aload_n hx hb dX2_back_19 rfl (lv_at hl 0 rfl) ?_
    refine gM_size G hP dX2_back_20 ?_
    exact wr_ret hx hb hr hlocks hS S1 hP ⟨by subst e_S1; unfold op_backR; rw [if_neg (by omega)]; congr 1; show ((S.c - 1 : Nat) : Int) = (S.c : Int) - 1; omega, by subst e_S1; unfold op_backS; rw [if_neg (by omega)]⟩ dX2_back_23
  · refine zr_const hx hb dX2_back_7 ?_
    exact wr_ret hx hb hr hlocks hS S hP ⟨by unfold op_backR; rw [if_pos (by omega)], by unfold op_backS; rw [if_pos (by omega)]⟩ dX2_back_8
set_option maxHeartbeats 4000000 in
set_option maxRecDepth 100000 in
/-- change -/
theorem mM_change (l : Launch) (D : va_G) (dB dI : ClassId) (h : Nat → Nat) (S : Par) (hok : pb_Ok S) (i a b : Int) (hi : Rng i) (ha : Rng a) (hb1 : Rng b) : WRi l yX2_change cX2_change 4 (some .boolean) ({ frames := 1, cells := 0, slots := 0, locals := 22 }) D (tyA dB dI) (wM dI h) S [.ref (h 0), .int (iZ (i)), .int (iZ (a)), .int (iZ (b))] (fun r u => r = iZ (op_changeR S i a b) ∧ op_changeS S i a b = u) := by
  refine WRi.mk (by decide) (Nat.le_of_ble_eq_true rfl) (wM_adr dI h _) ?_
  intro pr e s m below meth c ls A G hr hlocks hA hD hS hP hl
  have G : CM pr m c cX2_change 4 s _ D dB dI := G
  have hDD : ∀ S, va_D A (wM dI h S) := hD
  have hx := G.1.1
  have hb := G.1.2.1
  have hl : lv_has ls 4 [(0, .ref (h 0)), (1, .int (iZ (i))), (2, .int (iZ (a))), (3, .int (iZ (b)))] := hl
  have hc10 := hok.2.2.1
  have h01 := okI_01 a b
  have his := isI_spec S i
  refine lv_aload_n hx hb dX2_change_0 rfl (lv_at hl 0 rfl) ?_
  refine lv_iload_n hx hb dX2_change_1 rfl (lv_at hl 1 rfl) ?_
  refine zr_callV (rest := []) (As := [.int (iZ (i))]) G.1 (mM_is l D dB dI h S hok i hi) (lw_V q211 q213 qs12 q22 q214) hd_X2_is ⟨⟨rfl, rfl⟩, Nat.le_of_ble_eq_true rfl, Nat.le_of_ble_eq_true rfl⟩ G.2 hP (wM_0 ..) rfl rfl hl.1 rfl (Nat.le_of_ble_eq_true rfl) dX2_change_2 ⟨Nat.zero_le _, Nat.zero_le _⟩ ?_
  refine zr_if_eq (tgt := 17) hx hb dX2_change_5 (by decide) (by unfold Rng; omega) (fun c_5 => ?_) (fun c_5 => ?_)
  · refine zr_const hx hb dX2_change_17 ?_
    exact wr_zret hx hb hr hlocks hS S hP ⟨by unfold op_changeR; rw [if_neg (by omega)], by unfold op_changeS; rw [if_neg (by omega)]⟩ (Or.inl rfl) dX2_change_18
  · refine lv_aload_n hx hb dX2_change_8 rfl (lv_at hl 0 rfl) ?_
    refine lv_iload_n hx hb dX2_change_9 rfl (lv_at hl 2 rfl) ?_
    refine lv_iload_n hx hb dX2_change_10 rfl (lv_at hl 3 rfl) ?_
    refine zr_callV (rest := []) (As := [.int (iZ (a)), .int (iZ (b))]) G.1 (mM_good l D dB dI h S a b ha hb1) (lw_V q199 q201 qs11 q22 q202) hd_X2_good ⟨⟨rfl, rfl⟩, Nat.le_of_ble_eq_true rfl, Nat.le_of_ble_eq_true rfl⟩ G.2 hP (wM_0 ..) rfl rfl hl.1 rfl (Nat.le_of_ble_eq_true rfl) dX2_change_11 ⟨Nat.zero_le _, Nat.zero_le _⟩ ?_
    refine zr_if_ne (tgt := 19) hx hb dX2_change_14 (by decide) (by unfold Rng; omega) (fun c_14 => ?_) (fun c_14 => ?_)
    · refine lv_aload_n hx hb dX2_change_19 rfl (lv_at hl 0 rfl) ?_
      refine gM_wide G hP dX2_change_20 ?_
      refine lv_iload_n hx hb dX2_change_23 rfl (lv_at hl 1 rfl) ?_
      refine lv_iload_n hx hb dX2_change_24 rfl (lv_at hl 2 rfl) ?_
      refine sM_wide G hDD hS hP (i.toNat) (by omega) (by omega) dX2_change_25 (fun H locs hP hS => ?_)
      generalize e_Sa : Par.of S.w S.e S.c (updZ S.W (i.toNat) (a)) S.P = Sa at hP
      refine lv_aload_n hx hb dX2_change_26 rfl (lv_at hl 0 rfl) ?_
      refine gM_price G hP dX2_change_27 ?_
      refine lv_iload_n hx hb dX2_change_30 rfl (lv_at hl 1 rfl) ?_
      refine lv_iload_n hx hb dX2_change_31 rfl (lv_at hl 3 rfl) ?_
      refine sM_price G hDD hS hP (i.toNat) (by omega) (by omega) dX2_change_32 (fun H locs hP hS => ?_)
      generalize e_Sb : Par.of Sa.w Sa.e Sa.c Sa.W (updZ Sa.P (i.toNat) (b)) = Sb at hP
      refine zr_const hx hb dX2_change_33 ?_
      exact wr_zret hx hb hr hlocks hS Sb hP ⟨by unfold op_changeR; rw [if_pos (by omega)], by subst e_Sb; subst e_Sa; unfold op_changeS; rw [if_pos (by omega)]; rfl⟩ (Or.inr rfl) dX2_change_34
    · refine zr_const hx hb dX2_change_17 ?_
      exact wr_zret hx hb hr hlocks hS S hP ⟨by unfold op_changeR; rw [if_neg (by omega)], by unfold op_changeS; rw [if_neg (by omega)]⟩ (Or.inl rfl) dX2_change_18
set_option maxHeartbeats 4000000 in
set_option maxRecDepth 100000 in
/-- setWidth -/
theorem mM_setWidth (l : Launch) (D : va_G) (dB dI : ClassId) (h : Nat → Nat) (S : Par) (x : Int) (hx1 : Rng x) : WRi l yX2_setWidth cX2_setWidth 2 (some .boolean) ({ frames := 0, cells := 0, slots := 0, locals := 0 }) D (tyA dB dI) (wM dI h) S [.ref (h 0), .int (iZ (x))] (fun r u => r = iZ (op_widthR x) ∧ op_widthS S x = u) := by
  refine WRi.mk (by decide) (Nat.le_of_ble_eq_true rfl) (wM_adr dI h _) ?_
  intro pr e s m below meth c ls A G hr hlocks hA hD hS hP hl
  have G : CM pr m c cX2_setWidth 2 s _ D dB dI := G
  have hDD : ∀ S, va_D A (wM dI h S) := hD
  have hx := G.1.1
  have hb := G.1.2.1
  have hl : lv_has ls 2 [(0, .ref (h 0)), (1, .int (iZ (x)))] := hl
  unfold Rng at hx1
  refine lv_iload_n hx hb dX2_setWidth_0 rfl (lv_at hl 1 rfl) ?_
  refine zr_const hx hb dX2_setWidth_1 ?_
  refine zr_icmp_lt (tgt := 11) hx hb dX2_setWidth_2 (by decide) (by unfold Rng; omega) (fun c_2 => ?_) (fun c_2 => ?_)
  · refine zr_const hx hb dX2_setWidth_11 ?_
    exact wr_zret hx hb hr hlocks hS S hP ⟨by unfold op_widthR; rw [if_neg (by omega)], by unfold op_widthS; rw [if_neg (by omega)]⟩ (Or.inl rfl) dX2_setWidth_12
  · refine lv_iload_n hx hb dX2_setWidth_5 rfl (lv_at hl 1 rfl) ?_
    refine zr_bipush hx hb dX2_setWidth_6 (by decide) ?_
    refine zr_icmp_le (tgt := 13) hx hb dX2_setWidth_8 (by decide) (by unfold Rng; omega) (fun c_8 => ?_) (fun c_8 => ?_)
    · refine lv_aload_n hx hb dX2_setWidth_13 rfl (lv_at hl 0 rfl) ?_
      refine lv_iload_n hx hb dX2_setWidth_14 rfl (lv_at hl 1 rfl) ?_
      refine pM_room (x := x) G hDD hS hP dX2_setWidth_15 (fun H locs hP hS => ?_)
      generalize e_S1 : Par.of (x) S.e S.c S.W S.P = S1 at hP
      refine zr_const hx hb dX2_setWidth_18 ?_
      exact wr_zret hx hb hr hlocks hS S1 hP ⟨by unfold op_widthR; rw [if_pos (by omega)], by subst e_S1; unfold op_widthS; rw [if_pos (by omega)]⟩ (Or.inr rfl) dX2_setWidth_19
    · refine zr_const hx hb dX2_setWidth_11 ?_
      exact wr_zret hx hb hr hlocks hS S hP ⟨by unfold op_widthR; rw [if_neg (by omega)], by unfold op_widthS; rw [if_neg (by omega)]⟩ (Or.inl rfl) dX2_setWidth_12
end
section
/-! THE CONSTRUCTORS, and the law's own cell -/
section NROWS
variable {p : Program} {l : Launch} {e : Env} {R : Room} {s : State} {m : MethodId} {args : Array Value} {below : List Frame} {meth : Method} {c : Code} {H : Heap} {locs : List Loc} {cells slots : Nat} {Q : State → Prop}
variable {cc : ByteArray} {pc nL : Nat} {ls : Array Slot} {rest : List Value} {D : va_G} {dB dI : ClassId} {A : Nat → Prop} {H0 : Heap} {ws : va_W}
theorem zr_newB (hx : p.tables.exec = Jvm.exec) (hb : c.code = cc) (harr : (Cond.arrayClass .byte).before args s = true) (hK : va_K D vwCl (tyA dB dI) s) (hP : va_P D vwCl ws H) (hD : va_D A ws) (hS : va_S A H0 H locs) (hA : ∀ q, H0.size ≤ q → A q) {z : Int} (N : Nat) (hz : z = (N : Int)) (hN : N ≤ 200) (hcells : cells + 1 ≤ R.cells) (hslots : slots + N ≤ R.slots) (hdg : decode cc pc = .ok (.newarray .byte, 2))
    (kk : ∀ (q : Nat) (H1 : Heap), va_P D vwCl (ws ++ [(q, .inl (dB, N, .inl (fun _ => iZ 0)))]) H1 → va_D A (ws ++ [(q, .inl (dB, N, .inl (fun _ => iZ 0)))]) → va_S A H0 H1 locs → W p l e R s m args below meth c H1 locs (cells + 1) (slots + N) Q (F0 m (pc + 2) ls (.ref q :: rest))) : W p l e R s m args below meth c H locs cells slots Q (F0 m pc ls (.int (iZ z) :: rest)) := by
  refine va_newa (atype := .byte) (ty := .byte) (a0 := (N, .inl (fun _ => iZ 0))) hx hb harr rfl hK hP hD hS hA (fun cA => by rw [iZ_0]; rfl) (fun q => ?_) (iZ_clamp hz (by omega)) (by show N * 1 ≤ _; omega) hcells hslots hdg (fun q cA H1 hK1 hP1 hD1 hS1 => ?_)
  · rw [← iZ_0, iZ_lt (by unfold Rng; omega) Rng_0] at q
    omega
  · have h1 := va_nm_byte (hK1.2 2 (cA, .byte) rfl).2
    have h2 := va_nm_byte (hK.2 0 (dB, .byte) rfl).2
    have h3 : dB = cA := Option.some.inj (h2.symm.trans h1)
    subst h3
    exact kk q H1 hP1 hD1 hS1
theorem zr_newI (hx : p.tables.exec = Jvm.exec) (hb : c.code = cc) (harr : (Cond.arrayClass .int).before args s = true) (hK : va_K D vwCl (tyA dB dI) s) (hP : va_P D vwCl ws H) (hD : va_D A ws) (hS : va_S A H0 H locs) (hA : ∀ q, H0.size ≤ q → A q) {z : Int} (N : Nat) (hz : z = (N : Int)) (hN : N ≤ 200) (hcells : cells + 1 ≤ R.cells) (hslots : slots + N ≤ R.slots) (hdg : decode cc pc = .ok (.newarray .int, 2))
    (kk : ∀ (q : Nat) (H1 : Heap), va_P D vwCl (ws ++ [(q, .inl (dI, N, .inl (fun _ => iZ 0)))]) H1 → va_D A (ws ++ [(q, .inl (dI, N, .inl (fun _ => iZ 0)))]) → va_S A H0 H1 locs → W p l e R s m args below meth c H1 locs (cells + 1) (slots + N) Q (F0 m (pc + 2) ls (.ref q :: rest))) : W p l e R s m args below meth c H locs cells slots Q (F0 m pc ls (.int (iZ z) :: rest)) := by
  refine va_newa (atype := .int) (ty := .int) (a0 := (N, .inl (fun _ => iZ 0))) hx hb harr rfl hK hP hD hS hA (fun cA => by rw [iZ_0]; rfl) (fun q => ?_) (iZ_clamp hz (by omega)) (by show N * 4 ≤ _; omega) hcells hslots hdg (fun q cA H1 hK1 hP1 hD1 hS1 => ?_)
  · rw [← iZ_0, iZ_lt (by unfold Rng; omega) Rng_0] at q
    omega
  · have h1 := va_nm_int (hK1.2 2 (cA, .int) rfl).2
    have h2 := va_nm_int (hK.2 1 (dI, .int) rfl).2
    have h3 : dI = cA := Option.some.inj (h2.symm.trans h1)
    subst h3
    exact kk q H1 hP1 hD1 hS1
/-- the script's int at k, as an Int -/
theorem zr_sld (hx : p.tables.exec = Jvm.exec) (hb : c.code = cc) {b L : Nat} {xs : Nat → Int32} (hX : va_X b L xs s H0) (hbl : b < H0.size) (hbA : ¬ A b) (hS : va_S A H0 H locs) {z : Int} (k : Nat) (hz : z = (k : Int)) (hk : k < L) (hL : L < 2147483648) (hdg : decode cc pc = .ok (.iaload, 1))
    (kk : W p l e R s m args below meth c H locs cells slots Q (F0 m (pc + 1) ls (.int (iZ (xs k).toInt) :: rest))) : W p l e R s m args below meth c H locs cells slots Q (F0 m pc ls (.int (iZ z) :: .ref b :: rest)) :=
  va_sld hx hb hX hbl hbA hS (iZ_in hz hk hL) hdg (by rw [iZ_clamp hz (by omega), iZ_of (xs k)]; exact kk)
theorem zr_slen (hx : p.tables.exec = Jvm.exec) (hb : c.code = cc) {b L : Nat} {xs : Nat → Int32} (hX : va_X b L xs s H0) (hbl : b < H0.size) (hbA : ¬ A b) (hS : va_S A H0 H locs) (hdg : decode cc pc = .ok (.arraylength, 1))
    (kk : W p l e R s m args below meth c H locs cells slots Q (F0 m (pc + 1) ls (.int (iZ ((L : Nat) : Int)) :: rest))) : W p l e R s m args below meth c H locs cells slots Q (F0 m pc ls (.ref b :: rest)) :=
  va_slen hx hb hX hbl hbA hS hdg (by rw [iZ_nat] at kk; exact kk)
end NROWS
/-- the first contents of the component's own tables -/
def pb_pri0 : Pri := Pri.of 0 (fun _ => 0) (fun _ => 0) (fun _ => 0) (fun _ => 0)
abbrev wX00 (a : Nat) : va_W := [(a, .inr (0, [.int (iZ 0), .int (iZ 0), .null, .null, .int (iZ 0), .int (iZ 0), .null, .null, .null, .null]))]
abbrev wM00 (a : Nat) : va_W := [(a, .inr (1, [.int (iZ 0), .int (iZ 0), .int (iZ 0), .null, .null]))]
abbrev inP (D : va_G) (dB dI : ClassId) (w0 : va_W) (sz : Nat) (As : List Value) : Array Value → State → Prop := va_Pc As (fun U => U.heap.size = sz ∧ va_P D vwCl w0 U.heap ∧ va_K D vwCl (tyA dB dI) U ∧ va_D (fun _ => True) w0)
abbrev inQ (D : va_G) (w0 : va_W) (sz a : Nat) (w : (Nat → Nat) → va_W) : Array Value → State → Outcome → State → Prop := va_Qv (fun h : Nat → Nat => h 0 = a) (fun h t => va_P D vwCl (w h) t.heap ∧ va_D (va_A w0 sz) (w h)) (va_A w0 sz)
theorem hd_X1_init : yX1_init.cls ≠ "java/lang/invoke/MethodHandle" ∧ yX1_init.cls ≠ "java/lang/invoke/VarHandle" ∧ (parseMethodDescriptor yX1_init.desc).map (fun d => d.parameters.length) = some 2 := by decide +kernel
theorem hd_X2_init : yX2_init.cls ≠ "java/lang/invoke/MethodHandle" ∧ yX2_init.cls ≠ "java/lang/invoke/VarHandle" ∧ (parseMethodDescriptor yX2_init.desc).map (fun d => d.parameters.length) = some 2 := by decide +kernel
theorem hd_X0_cell : yX0_cell.cls ≠ "java/lang/invoke/MethodHandle" ∧ yX0_cell.cls ≠ "java/lang/invoke/VarHandle" ∧ (parseMethodDescriptor yX0_cell.desc).map (fun d => d.parameters.length) = some 2 := by decide +kernel
set_option maxHeartbeats 4000000 in
set_option maxRecDepth 100000 in
/-- the constructor: clamps its two numbers, all else is 0 -/
theorem mX_init (l : Launch) (D : va_G) (dB dI : ClassId) (a sz : Nat) (w1 e1 : Int) (hw1 : Rng w1) (he1 : Rng e1) : Met l yX1_init (ws_ yX1_init cX1_init 3 none) ({ frames := 1, cells := 6, slots := 174, locals := 12 }) (inP D dB dI (wX00 a) sz [.ref a, .int (iZ w1), .int (iZ e1)]) (inQ D (wX00 a) sz a (fun h => wX dB dI h (pb_new w1 e1) pb_pri0)) 6 174 (va_A (wX00 a) sz) := by
  refine Met.ofW (cc := cX1_init) (maxL := 3) (ret := none) (by decide) rfl ?_
  intro p e s m args below meth c s₁ B hml hv
  obtain ⟨rfl, hsz, hP, hK, hD0⟩ := hv
  have hx := B.exec
  have hb := B.bytes
  have hr := B.returns
  have hts := atoms_spec (ws := ws_ yX1_init cX1_init 3 none) B.pre
  have hts : ∀ w ∈ lw_all, w.before _ s = true := fun w h => hts w (List.mem_cons_of_mem _ h)
  have hown : s.vm.findClass RX1 = some m.cls := findClass_of_methodNamed B.named
  have hlocks := B.notSynchronized
  have hin : meth.name = "<init>" := (name_of_methodNamed B.named B.method).1
  subst hsz
  unfold Rng at hw1 he1
  unfold inQ
  have hD := hD0.self (sz := s.heap.size)
  generalize hAe : va_A (wX00 a) s.heap.size = A at hD ⊢
  have hA : ∀ q : Nat, s.heap.size ≤ q → A q := fun q h => by rw [← hAe]; exact Or.inr h
  have hS : va_S A s.heap s.heap [] := va_S.rf
  have hP : va_P D vwCl [(a, .inr (0, [.int (iZ 0), .int (iZ 0), .null, .null, .int (iZ 0), .int (iZ 0), .null, .null, .null, .null]))] s.heap := hP
  have hl := lv_entry [.ref a, .int (iZ w1), .int (iZ e1)] (n := 3) (Nat.le_of_ble_eq_true rfl)
  rw [lg_entry_eq]
  generalize (lg_sl [.ref a, .int (iZ w1), .int (iZ e1)] ++ List.replicate (3 - (lg_sl [.ref a, .int (iZ w1), .int (iZ e1)]).length) Slot.unset).toArray = ls at hl ⊢
  have hl : lv_has ls 3 [(0, .ref (a)), (1, .int (iZ (w1))), (2, .int (iZ (e1)))] := hl
  refine lv_aload_n hx hb dX1_init_0 rfl (lv_at hl 0 rfl) ?_
  refine W.objInit hx hb hown (hts _ q28) (hts _ q29) (hts _ q30) rfl (by rw [hml]; exact hl.1) rfl dX1_init_1 (Nat.le_of_ble_eq_true rfl) (Nat.le_of_ble_eq_true rfl) ?_
  refine W.eq (g2 := F0 m 4 ls []) rfl ?_
  refine lv_aload_n hx hb dX1_init_4 rfl (lv_at hl 0 rfl) ?_
  refine zr_bipush hx hb dX1_init_5 (by decide) ?_
  refine zr_newB hx hb (hts _ q62) hK hP hD hS hA 10 rfl (by omega) (Nat.le_of_ble_eq_true rfl) (Nat.le_of_ble_eq_true rfl) dX1_init_7 (fun q1 H hP hD hS => ?_)
  have hP : va_P D vwCl [(a, .inr (0, [.int (iZ 0), .int (iZ 0), .null, .null, .int (iZ 0), .int (iZ 0), .null, .null, .null, .null])), (q1, .inl (dB, 10, .inl (fun _ => iZ 0)))] H := hP
  have hD : va_D A [(a, .inr (0, [.int (iZ 0), .int (iZ 0), .null, .null, .int (iZ 0), .int (iZ 0), .null, .null, .null, .null])), (q1, .inl (dB, 10, .inl (fun _ => iZ 0)))] := hD
  refine va_putF (D := D) (ci := 0) (v := .ref (q1)) (ty := (.array .byte)) (C := RX1) (T := TX1) (N := 10) hx hb hts in_X1 tyX1 tyX1_ok nmX1 hown hK hP hD hS 0 rfl rfl 2 (by decide) (hts _ q33) (fun _ h9 => h9) rfl hin rfl (by decide +kernel) rfl rfl (Nat.le_of_ble_eq_true rfl) dX1_init_9 (fun H locs hP hD hS => ?_)
  have hP : va_P D vwCl [(a, .inr (0, [.int (iZ 0), .int (iZ 0), .ref (q1), .null, .int (iZ 0), .int (iZ 0), .null, .null, .null, .null])), (q1, .inl (dB, 10, .inl (fun _ => iZ 0)))] H := hP
  have hD : va_D A [(a, .inr (0, [.int (iZ 0), .int (iZ 0), .ref (q1), .null, .int (iZ 0), .int (iZ 0), .null, .null, .null, .null])), (q1, .inl (dB, 10, .inl (fun _ => iZ 0)))] := hD
  refine lv_aload_n hx hb dX1_init_12 rfl (lv_at hl 0 rfl) ?_
  refine zr_bipush hx hb dX1_init_13 (by decide) ?_
  refine zr_newB hx hb (hts _ q62) hK hP hD hS hA 10 rfl (by omega) (Nat.le_of_ble_eq_true rfl) (Nat.le_of_ble_eq_true rfl) dX1_init_15 (fun q2 H hP hD hS => ?_)
  have hP : va_P D vwCl [(a, .inr (0, [.int (iZ 0), .int (iZ 0), .ref (q1), .null, .int (iZ 0), .int (iZ 0), .null, .null, .null, .null])), (q1, .inl (dB, 10, .inl (fun _ => iZ 0))), (q2, .inl (dB, 10, .inl (fun _ => iZ 0)))] H := hP
  have hD : va_D A [(a, .inr (0, [.int (iZ 0), .int (iZ 0), .ref (q1), .null, .int (iZ 0), .int (iZ 0), .null, .null, .null, .null])), (q1, .inl (dB, 10, .inl (fun _ => iZ 0))), (q2, .inl (dB, 10, .inl (fun _ => iZ 0)))] := hD
  refine va_putF (D := D) (ci := 0) (v := .ref (q2)) (ty := (.array .byte)) (C := RX1) (T := TX1) (N := 10) hx hb hts in_X1 tyX1 tyX1_ok nmX1 hown hK hP hD hS 0 rfl rfl 3 (by decide) (hts _ q34) (fun _ h9 => h9) rfl hin rfl (by decide +kernel) rfl rfl (Nat.le_of_ble_eq_true rfl) dX1_init_17 (fun H locs hP hD hS => ?_)
  have hP : va_P D vwCl [(a, .inr (0, [.int (iZ 0), .int (iZ 0), .ref (q1), .ref (q2), .int (iZ 0), .int (iZ 0), .null, .null, .null, .null])), (q1, .inl (dB, 10, .inl (fun _ => iZ 0))), (q2, .inl (dB, 10, .inl (fun _ => iZ 0)))] H := hP
  have hD : va_D A [(a, .inr (0, [.int (iZ 0), .int (iZ 0), .ref (q1), .ref (q2), .int (iZ 0), .int (iZ 0), .null, .null, .null, .null])), (q1, .inl (dB, 10, .inl (fun _ => iZ 0))), (q2, .inl (dB, 10, .inl (fun _ => iZ 0)))] := hD
  refine lv_aload_n hx hb dX1_init_20 rfl (lv_at hl 0 rfl) ?_
  refine zr_bipush hx hb dX1_init_21 (by decide) ?_
  refine zr_newI hx hb (hts _ q63) hK hP hD hS hA 121 rfl (by omega) (Nat.le_of_ble_eq_true rfl) (Nat.le_of_ble_eq_true rfl) dX1_init_23 (fun q3 H hP hD hS => ?_)
  have hP : va_P D vwCl [(a, .inr (0, [.int (iZ 0), .int (iZ 0), .ref (q1), .ref (q2), .int (iZ 0), .int (iZ 0), .null, .null, .null, .null])), (q1, .inl (dB, 10, .inl (fun _ => iZ 0))), (q2, .inl (dB, 10, .inl (fun _ => iZ 0))), (q3, .inl (dI, 121, .inl (fun _ => iZ 0)))] H := hP
  have hD : va_D A [(a, .inr (0, [.int (iZ 0), .int (iZ 0), .ref (q1), .ref (q2), .int (iZ 0), .int (iZ 0), .null, .null, .null, .null])), (q1, .inl (dB, 10, .inl (fun _ => iZ 0))), (q2, .inl (dB, 10, .inl (fun _ => iZ 0))), (q3, .inl (dI, 121, .inl (fun _ => iZ 0)))] := hD
  refine va_putF (D := D) (ci := 0) (v := .ref (q3)) (ty := (.array .int)) (C := RX1) (T := TX1) (N := 10) hx hb hts in_X1 tyX1 tyX1_ok nmX1 hown hK hP hD hS 0 rfl rfl 6 (by decide) (hts _ q37) (fun _ h9 => h9) rfl hin rfl (by decide +kernel) rfl rfl (Nat.le_of_ble_eq_true rfl) dX1_init_25 (fun H locs hP hD hS => ?_)
  have hP : va_P D vwCl [(a, .inr (0, [.int (iZ 0), .int (iZ 0), .ref (q1), .ref (q2), .int (iZ 0), .int (iZ 0), .ref (q3), .null, .null, .null])), (q1, .inl (dB, 10, .inl (fun _ => iZ 0))), (q2, .inl (dB, 10, .inl (fun _ => iZ 0))), (q3, .inl (dI, 121, .inl (fun _ => iZ 0)))] H := hP
  have hD : va_D A [(a, .inr (0, [.int (iZ 0), .int (iZ 0), .ref (q1), .ref (q2), .int (iZ 0), .int (iZ 0), .ref (q3), .null, .null, .null])), (q1, .inl (dB, 10, .inl (fun _ => iZ 0))), (q2, .inl (dB, 10, .inl (fun _ => iZ 0))), (q3, .inl (dI, 121, .inl (fun _ => iZ 0)))] := hD
  refine lv_aload_n hx hb dX1_init_28 rfl (lv_at hl 0 rfl) ?_
  refine zr_bipush hx hb dX1_init_29 (by decide) ?_
  refine zr_newI hx hb (hts _ q63) hK hP hD hS hA 11 rfl (by omega) (Nat.le_of_ble_eq_true rfl) (Nat.le_of_ble_eq_true rfl) dX1_init_31 (fun q4 H hP hD hS => ?_)
  have hP : va_P D vwCl [(a, .inr (0, [.int (iZ 0), .int (iZ 0), .ref (q1), .ref (q2), .int (iZ 0), .int (iZ 0), .ref (q3), .null, .null, .null])), (q1, .inl (dB, 10, .inl (fun _ => iZ 0))), (q2, .inl (dB, 10, .inl (fun _ => iZ 0))), (q3, .inl (dI, 121, .inl (fun _ => iZ 0))), (q4, .inl (dI, 11, .inl (fun _ => iZ 0)))] H := hP
  have hD : va_D A [(a, .inr (0, [.int (iZ 0), .int (iZ 0), .ref (q1), .ref (q2), .int (iZ 0), .int (iZ 0), .ref (q3), .null, .null, .null])), (q1, .inl (dB, 10, .inl (fun _ => iZ 0))), (q2, .inl (dB, 10, .inl (fun _ => iZ 0))), (q3, .inl (dI, 121, .inl (fun _ => iZ 0))), (q4, .inl (dI, 11, .inl (fun _ => iZ 0)))] := hD
  refine va_putF (D := D) (ci := 0) (v := .ref (q4)) (ty := (.array .int)) (C := RX1) (T := TX1) (N := 10) hx hb hts in_X1 tyX1 tyX1_ok nmX1 hown hK hP hD hS 0 rfl rfl 7 (by decide) (hts _ q38) (fun _ h9 => h9) rfl hin rfl (by decide +kernel) rfl rfl (Nat.le_of_ble_eq_true rfl) dX1_init_33 (fun H locs hP hD hS => ?_)
  have hP : va_P D vwCl [(a, .inr (0, [.int (iZ 0), .int (iZ 0), .ref (q1), .ref (q2), .int (iZ 0), .int (iZ 0), .ref (q3), .ref (q4), .null, .null])), (q1, .inl (dB, 10, .inl (fun _ => iZ 0))), (q2, .inl (dB, 10, .inl (fun _ => iZ 0))), (q3, .inl (dI, 121, .inl (fun _ => iZ 0))), (q4, .inl (dI, 11, .inl (fun _ => iZ 0)))] H := hP
  have hD : va_D A [(a, .inr (0, [.int (iZ 0), .int (iZ 0), .ref (q1), .ref (q2), .int (iZ 0), .int (iZ 0), .ref (q3), .ref (q4), .null, .null])), (q1, .inl (dB, 10, .inl (fun _ => iZ 0))), (q2, .inl (dB, 10, .inl (fun _ => iZ 0))), (q3, .inl (dI, 121, .inl (fun _ => iZ 0))), (q4, .inl (dI, 11, .inl (fun _ => iZ 0)))] := hD
  refine lv_aload_n hx hb dX1_init_36 rfl (lv_at hl 0 rfl) ?_
  refine zr_bipush hx hb dX1_init_37 (by decide) ?_
  refine zr_newI hx hb (hts _ q63) hK hP hD hS hA 11 rfl (by omega) (Nat.le_of_ble_eq_true rfl) (Nat.le_of_ble_eq_true rfl) dX1_init_39 (fun q5 H hP hD hS => ?_)
  have hP : va_P D vwCl [(a, .inr (0, [.int (iZ 0), .int (iZ 0), .ref (q1), .ref (q2), .int (iZ 0), .int (iZ 0), .ref (q3), .ref (q4), .null, .null])), (q1, .inl (dB, 10, .inl (fun _ => iZ 0))), (q2, .inl (dB, 10, .inl (fun _ => iZ 0))), (q3, .inl (dI, 121, .inl (fun _ => iZ 0))), (q4, .inl (dI, 11, .inl (fun _ => iZ 0))), (q5, .inl (dI, 11, .inl (fun _ => iZ 0)))] H := hP
  have hD : va_D A [(a, .inr (0, [.int (iZ 0), .int (iZ 0), .ref (q1), .ref (q2), .int (iZ 0), .int (iZ 0), .ref (q3), .ref (q4), .null, .null])), (q1, .inl (dB, 10, .inl (fun _ => iZ 0))), (q2, .inl (dB, 10, .inl (fun _ => iZ 0))), (q3, .inl (dI, 121, .inl (fun _ => iZ 0))), (q4, .inl (dI, 11, .inl (fun _ => iZ 0))), (q5, .inl (dI, 11, .inl (fun _ => iZ 0)))] := hD
  refine va_putF (D := D) (ci := 0) (v := .ref (q5)) (ty := (.array .int)) (C := RX1) (T := TX1) (N := 10) hx hb hts in_X1 tyX1 tyX1_ok nmX1 hown hK hP hD hS 0 rfl rfl 8 (by decide) (hts _ q39) (fun _ h9 => h9) rfl hin rfl (by decide +kernel) rfl rfl (Nat.le_of_ble_eq_true rfl) dX1_init_41 (fun H locs hP hD hS => ?_)
  have hP : va_P D vwCl [(a, .inr (0, [.int (iZ 0), .int (iZ 0), .ref (q1), .ref (q2), .int (iZ 0), .int (iZ 0), .ref (q3), .ref (q4), .ref (q5), .null])), (q1, .inl (dB, 10, .inl (fun _ => iZ 0))), (q2, .inl (dB, 10, .inl (fun _ => iZ 0))), (q3, .inl (dI, 121, .inl (fun _ => iZ 0))), (q4, .inl (dI, 11, .inl (fun _ => iZ 0))), (q5, .inl (dI, 11, .inl (fun _ => iZ 0)))] H := hP
  have hD : va_D A [(a, .inr (0, [.int (iZ 0), .int (iZ 0), .ref (q1), .ref (q2), .int (iZ 0), .int (iZ 0), .ref (q3), .ref (q4), .ref (q5), .null])), (q1, .inl (dB, 10, .inl (fun _ => iZ 0))), (q2, .inl (dB, 10, .inl (fun _ => iZ 0))), (q3, .inl (dI, 121, .inl (fun _ => iZ 0))), (q4, .inl (dI, 11, .inl (fun _ => iZ 0))), (q5, .inl (dI, 11, .inl (fun _ => iZ 0)))] := hD
  refine lv_aload_n hx hb dX1_init_44 rfl (lv_at hl 0 rfl) ?_
  refine zr_bipush hx hb dX1_init_45 (by decide) ?_
  refine zr_newI hx hb (hts _ q63) hK hP hD hS hA 11 rfl (by omega) (Nat.le_of_ble_eq_true rfl) (Nat.le_of_ble_eq_true rfl) dX1_init_47 (fun q6 H hP hD hS => ?_)
  have hP : va_P D vwCl [(a, .inr (0, [.int (iZ 0), .int (iZ 0), .ref (q1), .ref (q2), .int (iZ 0), .int (iZ 0), .ref (q3), .ref (q4), .ref (q5), .null])), (q1, .inl (dB, 10, .inl (fun _ => iZ 0))), (q2, .inl (dB, 10, .inl (fun _ => iZ 0))), (q3, .inl (dI, 121, .inl (fun _ => iZ 0))), (q4, .inl (dI, 11, .inl (fun _ => iZ 0))), (q5, .inl (dI, 11, .inl (fun _ => iZ 0))), (q6, .inl (dI, 11, .inl (fun _ => iZ 0)))] H := hP
  have hD : va_D A [(a, .inr (0, [.int (iZ 0), .int (iZ 0), .ref (q1), .ref (q2), .int (iZ 0), .int (iZ 0), .ref (q3), .ref (q4), .ref (q5), .null])), (q1, .inl (dB, 10, .inl (fun _ => iZ 0))), (q2, .inl (dB, 10, .inl (fun _ => iZ 0))), (q3, .inl (dI, 121, .inl (fun _ => iZ 0))), (q4, .inl (dI, 11, .inl (fun _ => iZ 0))), (q5, .inl (dI, 11, .inl (fun _ => iZ 0))), (q6, .inl (dI, 11, .inl (fun _ => iZ 0)))] := hD
  refine va_putF (D := D) (ci := 0) (v := .ref (q6)) (ty := (.array .int)) (C := RX1) (T := TX1) (N := 10) hx hb hts in_X1 tyX1 tyX1_ok nmX1 hown hK hP hD hS 0 rfl rfl 9 (by decide) (hts _ q40) (fun _ h9 => h9) rfl hin rfl (by decide +kernel) rfl rfl (Nat.le_of_ble_eq_true rfl) dX1_init_49 (fun H locs hP hD hS => ?_)
  have hP : va_P D vwCl [(a, .inr (0, [.int (iZ 0), .int (iZ 0), .ref (q1), .ref (q2), .int (iZ 0), .int (iZ 0), .ref (q3), .ref (q4), .ref (q5), .ref (q6)])), (q1, .inl (dB, 10, .inl (fun _ => iZ 0))), (q2, .inl (dB, 10, .inl (fun _ => iZ 0))), (q3, .inl (dI, 121, .inl (fun _ => iZ 0))), (q4, .inl (dI, 11, .inl (fun _ => iZ 0))), (q5, .inl (dI, 11, .inl (fun _ => iZ 0))), (q6, .inl (dI, 11, .inl (fun _ => iZ 0)))] H := hP
  have hD : va_D A [(a, .inr (0, [.int (iZ 0), .int (iZ 0), .ref (q1), .ref (q2), .int (iZ 0), .int (iZ 0), .ref (q3), .ref (q4), .ref (q5), .ref (q6)])), (q1, .inl (dB, 10, .inl (fun _ => iZ 0))), (q2, .inl (dB, 10, .inl (fun _ => iZ 0))), (q3, .inl (dI, 121, .inl (fun _ => iZ 0))), (q4, .inl (dI, 11, .inl (fun _ => iZ 0))), (q5, .inl (dI, 11, .inl (fun _ => iZ 0))), (q6, .inl (dI, 11, .inl (fun _ => iZ 0)))] := hD
  refine lv_aload_n hx hb dX1_init_52 rfl (lv_at hl 0 rfl) ?_
  refine zr_join (α := Int) (fun x => F0 m 74 ls (.int (iZ x) :: [.ref (a)])) (fun x => x = pb_cap 5 60 w1) (fun J => ?_) (fun cw e_cw => ?_)
  · refine lv_iload_n hx hb dX1_init_53 rfl (lv_at hl 1 rfl) ?_
    refine zr_const hx hb dX1_init_54 ?_
    refine zr_icmp_ge (tgt := 62) hx hb dX1_init_55 (by decide) (by unfold Rng; omega) (fun c_55 => ?_) (fun c_55 => ?_)
    · refine lv_iload_n hx hb dX1_init_62 rfl (lv_at hl 1 rfl) ?_
      refine zr_bipush hx hb dX1_init_63 (by decide) ?_
      refine zr_icmp_le (tgt := 73) hx hb dX1_init_65 (by decide) (by unfold Rng; omega) (fun c_65 => ?_) (fun c_65 => ?_)
      · refine lv_iload_n hx hb dX1_init_73 rfl (lv_at hl 1 rfl) ?_
        exact J _ (by unfold pb_cap; rw [if_neg (by omega), if_neg (by omega)])
      · refine zr_bipush hx hb dX1_init_68 (by decide) ?_
        refine lv_goto (tgt := 74) hx hb dX1_init_70 (by decide) ?_
        exact J _ (by unfold pb_cap; rw [if_neg (by omega), if_pos (by omega)])
    · refine zr_const hx hb dX1_init_58 ?_
      refine lv_goto (tgt := 74) hx hb dX1_init_59 (by decide) ?_
      exact J _ (by unfold pb_cap; rw [if_pos (by omega)])
  · subst e_cw
    refine va_put (D := D) (ci := 0) (v := .int (iZ (pb_cap 5 60 w1))) (ty := .int) (C := RX1) (T := TX1) (N := 10) hx hb hts in_X1 tyX1 tyX1_ok nmX1 hown hK hP hD hS 0 rfl rfl 0 (by decide) (hts _ q31) (fun _ h9 => h9) rfl (by decide +kernel) rfl rfl (Nat.le_of_ble_eq_true rfl) dX1_init_74 (fun H locs hP hD hS => ?_)
    have hP : va_P D vwCl [(a, .inr (0, [.int (iZ (pb_cap 5 60 w1)), .int (iZ 0), .ref (q1), .ref (q2), .int (iZ 0), .int (iZ 0), .ref (q3), .ref (q4), .ref (q5), .ref (q6)])), (q1, .inl (dB, 10, .inl (fun _ => iZ 0))), (q2, .inl (dB, 10, .inl (fun _ => iZ 0))), (q3, .inl (dI, 121, .inl (fun _ => iZ 0))), (q4, .inl (dI, 11, .inl (fun _ => iZ 0))), (q5, .inl (dI, 11, .inl (fun _ => iZ 0))), (q6, .inl (dI, 11, .inl (fun _ => iZ 0)))] H := hP
    have hD : va_D A [(a, .inr (0, [.int (iZ (pb_cap 5 60 w1)), .int (iZ 0), .ref (q1), .ref (q2), .int (iZ 0), .int (iZ 0), .ref (q3), .ref (q4), .ref (q5), .ref (q6)])), (q1, .inl (dB, 10, .inl (fun _ => iZ 0))), (q2, .inl (dB, 10, .inl (fun _ => iZ 0))), (q3, .inl (dI, 121, .inl (fun _ => iZ 0))), (q4, .inl (dI, 11, .inl (fun _ => iZ 0))), (q5, .inl (dI, 11, .inl (fun _ => iZ 0))), (q6, .inl (dI, 11, .inl (fun _ => iZ 0)))] := hD
    refine lv_aload_n hx hb dX1_init_77 rfl (lv_at hl 0 rfl) ?_
    refine zr_join (α := Int) (fun x => F0 m 98 ls (.int (iZ x) :: [.ref (a)])) (fun x => x = pb_cap 0 100 e1) (fun J => ?_) (fun ce e_ce => ?_)
    · refine lv_iload_n hx hb dX1_init_78 rfl (lv_at hl 2 rfl) ?_
      refine zr_if_ge (tgt := 86) hx hb dX1_init_79 (by decide) (by unfold Rng; omega) (fun c_79 => ?_) (fun c_79 => ?_)
      · refine lv_iload_n hx hb dX1_init_86 rfl (lv_at hl 2 rfl) ?_
        refine zr_bipush hx hb dX1_init_87 (by decide) ?_
        refine zr_icmp_le (tgt := 97) hx hb dX1_init_89 (by decide) (by unfold Rng; omega) (fun c_89 => ?_) (fun c_89 => ?_)
        · refine lv_iload_n hx hb dX1_init_97 rfl (lv_at hl 2 rfl) ?_
          exact J _ (by unfold pb_cap; rw [if_neg (by omega), if_neg (by omega)])
        · refine zr_bipush hx hb dX1_init_92 (by decide) ?_
          refine lv_goto (tgt := 98) hx hb dX1_init_94 (by decide) ?_
          exact J _ (by unfold pb_cap; rw [if_neg (by omega), if_pos (by omega)])
      · refine zr_const hx hb dX1_init_82 ?_
        refine lv_goto (tgt := 98) hx hb dX1_init_83 (by decide) ?_
        exact J _ (by unfold pb_cap; rw [if_pos (by omega)])
    · subst e_ce
      refine va_putF (D := D) (ci := 0) (v := .int (iZ (pb_cap 0 100 e1))) (ty := .int) (C := RX1) (T := TX1) (N := 10) hx hb hts in_X1 tyX1 tyX1_ok nmX1 hown hK hP hD hS 0 rfl rfl 1 (by decide) (hts _ q32) (fun _ h9 => h9) rfl hin rfl (by decide +kernel) rfl rfl (Nat.le_of_ble_eq_true rfl) dX1_init_98 (fun H locs hP hD hS => ?_)
      have hP : va_P D vwCl [(a, .inr (0, [.int (iZ (pb_cap 5 60 w1)), .int (iZ (pb_cap 0 100 e1)), .ref (q1), .ref (q2), .int (iZ 0), .int (iZ 0), .ref (q3), .ref (q4), .ref (q5), .ref (q6)])), (q1, .inl (dB, 10, .inl (fun _ => iZ 0))), (q2, .inl (dB, 10, .inl (fun _ => iZ 0))), (q3, .inl (dI, 121, .inl (fun _ => iZ 0))), (q4, .inl (dI, 11, .inl (fun _ => iZ 0))), (q5, .inl (dI, 11, .inl (fun _ => iZ 0))), (q6, .inl (dI, 11, .inl (fun _ => iZ 0)))] H := hP
      have hD : va_D A [(a, .inr (0, [.int (iZ (pb_cap 5 60 w1)), .int (iZ (pb_cap 0 100 e1)), .ref (q1), .ref (q2), .int (iZ 0), .int (iZ 0), .ref (q3), .ref (q4), .ref (q5), .ref (q6)])), (q1, .inl (dB, 10, .inl (fun _ => iZ 0))), (q2, .inl (dB, 10, .inl (fun _ => iZ 0))), (q3, .inl (dI, 121, .inl (fun _ => iZ 0))), (q4, .inl (dI, 11, .inl (fun _ => iZ 0))), (q5, .inl (dI, 11, .inl (fun _ => iZ 0))), (q6, .inl (dI, 11, .inl (fun _ => iZ 0)))] := hD
      have hP9 : va_P D vwCl (wX dB dI (fun k => [a, q1, q2, q3, q4, q5, q6].getD k 0) (pb_new w1 e1) pb_pri0) H := hP
      have hD9 : va_D A (wX dB dI (fun k => [a, q1, q2, q3, q4, q5, q6].getD k 0) (pb_new w1 e1) pb_pri0) := hD
      refine W.widen (k := 6) (n := 174) (by omega) (by omega) ?_
      exact W.vret hx hb hr (fun t ht hW => ⟨⟨(fun k => [a, q1, q2, q3, q4, q5, q6].getD k 0), rfl, rfl, by rw [ht]; exact hP9, hD9⟩, hS.F ht⟩) hS.2.2 dX1_init_101
set_option maxHeartbeats 4000000 in
set_option maxRecDepth 100000 in
/-- the constructor: clamps its two numbers, all else is 0 -/
theorem mM_init (l : Launch) (D : va_G) (dB dI : ClassId) (a sz : Nat) (w1 e1 : Int) (hw1 : Rng w1) (he1 : Rng e1) : Met l yX2_init (ws_ yX2_init cX2_init 3 none) ({ frames := 1, cells := 2, slots := 20, locals := 12 }) (inP D dB dI (wM00 a) sz [.ref a, .int (iZ w1), .int (iZ e1)]) (inQ D (wM00 a) sz a (fun h => wM dI h (pb_new w1 e1))) 2 20 (va_A (wM00 a) sz) := by
  refine Met.ofW (cc := cX2_init) (maxL := 3) (ret := none) (by decide) rfl ?_
  intro p e s m args below meth c s₁ B hml hv
  obtain ⟨rfl, hsz, hP, hK, hD0⟩ := hv
  have hx := B.exec
  have hb := B.bytes
  have hr := B.returns
  have hts := atoms_spec (ws := ws_ yX2_init cX2_init 3 none) B.pre
  have hts : ∀ w ∈ lw_all, w.before _ s = true := fun w h => hts w (List.mem_cons_of_mem _ h)
  have hown : s.vm.findClass RX2 = some m.cls := findClass_of_methodNamed B.named
  have hlocks := B.notSynchronized
  have hin : meth.name = "<init>" := (name_of_methodNamed B.named B.method).1
  subst hsz
  unfold Rng at hw1 he1
  unfold inQ
  have hD := hD0.self (sz := s.heap.size)
  generalize hAe : va_A (wM00 a) s.heap.size = A at hD ⊢
  have hA : ∀ q : Nat, s.heap.size ≤ q → A q := fun q h => by rw [← hAe]; exact Or.inr h
  have hS : va_S A s.heap s.heap [] := va_S.rf
  have hP : va_P D vwCl [(a, .inr (1, [.int (iZ 0), .int (iZ 0), .int (iZ 0), .null, .null]))] s.heap := hP
  have hl := lv_entry [.ref a, .int (iZ w1), .int (iZ e1)] (n := 3) (Nat.le_of_ble_eq_true rfl)
  rw [lg_entry_eq]
  generalize (lg_sl [.ref a, .int (iZ w1), .int (iZ e1)] ++ List.replicate (3 - (lg_sl [.ref a, .int (iZ w1), .int (iZ e1)]).length) Slot.unset).toArray = ls at hl ⊢
  have hl : lv_has ls 3 [(0, .ref (a)), (1, .int (iZ (w1))), (2, .int (iZ (e1)))] := hl
  refine lv_aload_n hx hb dX2_init_0 rfl (lv_at hl 0 rfl) ?_
  refine W.objInit hx hb hown (hts _ q178) (hts _ q29) (hts _ q30) rfl (by rw [hml]; exact hl.1) rfl dX2_init_1 (Nat.le_of_ble_eq_true rfl) (Nat.le_of_ble_eq_true rfl) ?_
  refine W.eq (g2 := F0 m 4 ls []) rfl ?_
  refine lv_aload_n hx hb dX2_init_4 rfl (lv_at hl 0 rfl) ?_
  refine zr_bipush hx hb dX2_init_5 (by decide) ?_
  refine zr_newI hx hb (hts _ q63) hK hP hD hS hA 10 rfl (by omega) (Nat.le_of_ble_eq_true rfl) (Nat.le_of_ble_eq_true rfl) dX2_init_7 (fun q1 H hP hD hS => ?_)
  have hP : va_P D vwCl [(a, .inr (1, [.int (iZ 0), .int (iZ 0), .int (iZ 0), .null, .null])), (q1, .inl (dI, 10, .inl (fun _ => iZ 0)))] H := hP
  have hD : va_D A [(a, .inr (1, [.int (iZ 0), .int (iZ 0), .int (iZ 0), .null, .null])), (q1, .inl (dI, 10, .inl (fun _ => iZ 0)))] := hD
  refine va_put (D := D) (ci := 1) (v := .ref (q1)) (ty := (.array .int)) (C := RX2) (T := TX2) (N := 5) hx hb hts in_X2 tyX2 tyX2_ok nmX2 hown hK hP hD hS 0 rfl rfl 3 (by decide) (hts _ q182) (fun _ h9 => h9) rfl (by decide +kernel) rfl rfl (Nat.le_of_ble_eq_true rfl) dX2_init_9 (fun H locs hP hD hS => ?_)
  have hP : va_P D vwCl [(a, .inr (1, [.int (iZ 0), .int (iZ 0), .int (iZ 0), .ref (q1), .null])), (q1, .inl (dI, 10, .inl (fun _ => iZ 0)))] H := hP
  have hD : va_D A [(a, .inr (1, [.int (iZ 0), .int (iZ 0), .int (iZ 0), .ref (q1), .null])), (q1, .inl (dI, 10, .inl (fun _ => iZ 0)))] := hD
  refine lv_aload_n hx hb dX2_init_12 rfl (lv_at hl 0 rfl) ?_
  refine zr_bipush hx hb dX2_init_13 (by decide) ?_
  refine zr_newI hx hb (hts _ q63) hK hP hD hS hA 10 rfl (by omega) (Nat.le_of_ble_eq_true rfl) (Nat.le_of_ble_eq_true rfl) dX2_init_15 (fun q2 H hP hD hS => ?_)
  have hP : va_P D vwCl [(a, .inr (1, [.int (iZ 0), .int (iZ 0), .int (iZ 0), .ref (q1), .null])), (q1, .inl (dI, 10, .inl (fun _ => iZ 0))), (q2, .inl (dI, 10, .inl (fun _ => iZ 0)))] H := hP
  have hD : va_D A [(a, .inr (1, [.int (iZ 0), .int (iZ 0), .int (iZ 0), .ref (q1), .null])), (q1, .inl (dI, 10, .inl (fun _ => iZ 0))), (q2, .inl (dI, 10, .inl (fun _ => iZ 0)))] := hD
  refine va_put (D := D) (ci := 1) (v := .ref (q2)) (ty := (.array .int)) (C := RX2) (T := TX2) (N := 5) hx hb hts in_X2 tyX2 tyX2_ok nmX2 hown hK hP hD hS 0 rfl rfl 4 (by decide) (hts _ q183) (fun _ h9 => h9) rfl (by decide +kernel) rfl rfl (Nat.le_of_ble_eq_true rfl) dX2_init_17 (fun H locs hP hD hS => ?_)
  have hP : va_P D vwCl [(a, .inr (1, [.int (iZ 0), .int (iZ 0), .int (iZ 0), .ref (q1), .ref (q2)])), (q1, .inl (dI, 10, .inl (fun _ => iZ 0))), (q2, .inl (dI, 10, .inl (fun _ => iZ 0)))] H := hP
  have hD : va_D A [(a, .inr (1, [.int (iZ 0), .int (iZ 0), .int (iZ 0), .ref (q1), .ref (q2)])), (q1, .inl (dI, 10, .inl (fun _ => iZ 0))), (q2, .inl (dI, 10, .inl (fun _ => iZ 0)))] := hD
  refine lv_aload_n hx hb dX2_init_20 rfl (lv_at hl 0 rfl) ?_
  refine zr_join (α := Int) (fun x => F0 m 42 ls (.int (iZ x) :: [.ref (a)])) (fun x => x = pb_cap 5 60 w1) (fun J => ?_) (fun cw e_cw => ?_)
  · refine lv_iload_n hx hb dX2_init_21 rfl (lv_at hl 1 rfl) ?_
    refine zr_const hx hb dX2_init_22 ?_
    refine zr_icmp_ge (tgt := 30) hx hb dX2_init_23 (by decide) (by unfold Rng; omega) (fun c_23 => ?_) (fun c_23 => ?_)
    · refine lv_iload_n hx hb dX2_init_30 rfl (lv_at hl 1 rfl) ?_
      refine zr_bipush hx hb dX2_init_31 (by decide) ?_
      refine zr_icmp_le (tgt := 41) hx hb dX2_init_33 (by decide) (by unfold Rng; omega) (fun c_33 => ?_) (fun c_33 => ?_)
      · refine lv_iload_n hx hb dX2_init_41 rfl (lv_at hl 1 rfl) ?_
        exact J _ (by unfold pb_cap; rw [if_neg (by omega), if_neg (by omega)])
      · refine zr_bipush hx hb dX2_init_36 (by decide) ?_
        refine lv_goto (tgt := 42) hx hb dX2_init_38 (by decide) ?_
        exact J _ (by unfold pb_cap; rw [if_neg (by omega), if_pos (by omega)])
    · refine zr_const hx hb dX2_init_26 ?_
      refine lv_goto (tgt := 42) hx hb dX2_init_27 (by decide) ?_
      exact J _ (by unfold pb_cap; rw [if_pos (by omega)])
  · subst e_cw
    refine va_put (D := D) (ci := 1) (v := .int (iZ (pb_cap 5 60 w1))) (ty := .int) (C := RX2) (T := TX2) (N := 5) hx hb hts in_X2 tyX2 tyX2_ok nmX2 hown hK hP hD hS 0 rfl rfl 0 (by decide) (hts _ q179) (fun _ h9 => h9) rfl (by decide +kernel) rfl rfl (Nat.le_of_ble_eq_true rfl) dX2_init_42 (fun H locs hP hD hS => ?_)
    have hP : va_P D vwCl [(a, .inr (1, [.int (iZ (pb_cap 5 60 w1)), .int (iZ 0), .int (iZ 0), .ref (q1), .ref (q2)])), (q1, .inl (dI, 10, .inl (fun _ => iZ 0))), (q2, .inl (dI, 10, .inl (fun _ => iZ 0)))] H := hP
    have hD : va_D A [(a, .inr (1, [.int (iZ (pb_cap 5 60 w1)), .int (iZ 0), .int (iZ 0), .ref (q1), .ref (q2)])), (q1, .inl (dI, 10, .inl (fun _ => iZ 0))), (q2, .inl (dI, 10, .inl (fun _ => iZ 0)))] := hD
    refine lv_aload_n hx hb dX2_init_45 rfl (lv_at hl 0 rfl) ?_
    refine zr_join (α := Int) (fun x => F0 m 66 ls (.int (iZ x) :: [.ref (a)])) (fun x => x = pb_cap 0 100 e1) (fun J => ?_) (fun ce e_ce => ?_)
    · refine lv_iload_n hx hb dX2_init_46 rfl (lv_at hl 2 rfl) ?_
      refine zr_if_ge (tgt := 54) hx hb dX2_init_47 (by decide) (by unfold Rng; omega) (fun c_47 => ?_) (fun c_47 => ?_)
      · refine lv_iload_n hx hb dX2_init_54 rfl (lv_at hl 2 rfl) ?_
        refine zr_bipush hx hb dX2_init_55 (by decide) ?_
        refine zr_icmp_le (tgt := 65) hx hb dX2_init_57 (by decide) (by unfold Rng; omega) (fun c_57 => ?_) (fun c_57 => ?_)
        · refine lv_iload_n hx hb dX2_init_65 rfl (lv_at hl 2 rfl) ?_
          exact J _ (by unfold pb_cap; rw [if_neg (by omega), if_neg (by omega)])
        · refine zr_bipush hx hb dX2_init_60 (by decide) ?_
          refine lv_goto (tgt := 66) hx hb dX2_init_62 (by decide) ?_
          exact J _ (by unfold pb_cap; rw [if_neg (by omega), if_pos (by omega)])
      · refine zr_const hx hb dX2_init_50 ?_
        refine lv_goto (tgt := 66) hx hb dX2_init_51 (by decide) ?_
        exact J _ (by unfold pb_cap; rw [if_pos (by omega)])
    · subst e_ce
      refine va_put (D := D) (ci := 1) (v := .int (iZ (pb_cap 0 100 e1))) (ty := .int) (C := RX2) (T := TX2) (N := 5) hx hb hts in_X2 tyX2 tyX2_ok nmX2 hown hK hP hD hS 0 rfl rfl 1 (by decide) (hts _ q180) (fun _ h9 => h9) rfl (by decide +kernel) rfl rfl (Nat.le_of_ble_eq_true rfl) dX2_init_66 (fun H locs hP hD hS => ?_)
      have hP : va_P D vwCl [(a, .inr (1, [.int (iZ (pb_cap 5 60 w1)), .int (iZ (pb_cap 0 100 e1)), .int (iZ 0), .ref (q1), .ref (q2)])), (q1, .inl (dI, 10, .inl (fun _ => iZ 0))), (q2, .inl (dI, 10, .inl (fun _ => iZ 0)))] H := hP
      have hD : va_D A [(a, .inr (1, [.int (iZ (pb_cap 5 60 w1)), .int (iZ (pb_cap 0 100 e1)), .int (iZ 0), .ref (q1), .ref (q2)])), (q1, .inl (dI, 10, .inl (fun _ => iZ 0))), (q2, .inl (dI, 10, .inl (fun _ => iZ 0)))] := hD
      have hP9 : va_P D vwCl (wM dI (fun k => [a, q1, q2].getD k 0) (pb_new w1 e1)) H := hP
      have hD9 : va_D A (wM dI (fun k => [a, q1, q2].getD k 0) (pb_new w1 e1)) := hD
      refine W.widen (k := 2) (n := 20) (by omega) (by omega) ?_
      exact W.vret hx hb hr (fun t ht hW => ⟨⟨(fun k => [a, q1, q2].getD k 0), rfl, rfl, by rw [ht]; exact hP9, hD9⟩, hS.F ht⟩) hS.2.2 dX2_init_69
set_option maxHeartbeats 4000000 in
set_option maxRecDepth 100000 in
/-- cell(script, k) -/
theorem mL_cell (l : Launch) (b L : Nat) (xs : Nat → Int32) (hL : L ≤ 258) (k : Nat) (hk : k < 2) : Met l yX0_cell (ws_ yX0_cell cX0_cell 2 (some .int)) ({ frames := 0, cells := 0, slots := 0, locals := 0 }) (va_Pc [.ref b, .int (iZ ((k : Nat) : Int))] (fun U => va_X b L xs U U.heap)) (QcRead (iZ (if k < L then (xs k).toInt else 0))) 0 0 (fun _ => False) := by
  refine Met.ofW (cc := cX0_cell) (maxL := 2) (ret := (some .int)) (by decide) rfl ?_
  intro p e s m args below meth c s₁ B hml hv
  obtain ⟨rfl, hX⟩ := hv
  have hx := B.exec
  have hb := B.bytes
  have hr := B.returns
  have hlocks := B.notSynchronized
  have hbl : b < s.heap.size := by
    obtain ⟨scr, h1, _⟩ := hX
    exact (Array.getElem?_eq_some_iff.mp h1).1
  have hS : va_S (fun _ => False) s.heap s.heap [] := va_S.rf
  have hl := lv_entry [.ref b, .int (iZ ((k : Nat) : Int))] (n := 2) (Nat.le_of_ble_eq_true rfl)
  rw [lg_entry_eq]
  generalize (lg_sl [.ref b, .int (iZ ((k : Nat) : Int))] ++ List.replicate (2 - (lg_sl [.ref b, .int (iZ ((k : Nat) : Int))]).length) Slot.unset).toArray = ls at hl ⊢
  have hl : lv_has ls 2 [(0, .ref (b)), (1, .int (iZ (((k : Nat) : Int))))] := hl
  refine lv_iload_n hx hb dX0_cell_0 rfl (lv_at hl 1 rfl) ?_
  refine lv_aload_n hx hb dX0_cell_1 rfl (lv_at hl 0 rfl) ?_
  refine zr_slen hx hb hX hbl (fun z => z) hS dX0_cell_2 ?_
  refine zr_icmp_ge (tgt := 12) hx hb dX0_cell_3 (by decide) (by unfold Rng; omega) (fun c_3 => ?_) (fun c_3 => ?_)
  · refine zr_const hx hb dX0_cell_12 ?_
    exact zr_ret hx hb hr hlocks (by rw [if_neg (by omega)]) dX0_cell_13
  · refine lv_aload_n hx hb dX0_cell_6 rfl (lv_at hl 0 rfl) ?_
    refine lv_iload_n hx hb dX0_cell_7 rfl (lv_at hl 1 rfl) ?_
    refine zr_sld hx hb hX hbl (fun z => z) hS k rfl (by omega) (by omega) dX0_cell_8 ?_
    refine lv_goto (tgt := 13) hx hb dX0_cell_9 (by decide) ?_
    exact zr_ret hx hb hr hlocks (by rw [if_pos (by omega)]) dX0_cell_13
end
section
/-! THE CLAIM OUT OF ONE WALK OF THE LAW'S BODY. Your part is whole_start (and what it stands on); all else here is the same for every law, but numbers. -/
def R_law : String := "ParagraphBreakerLaw"
def lw_P (b : Addr) (xs : List Int32) (args : Array Value) (s : State) : Prop := args = #[.ref b] ∧ s.IntsAt b xs ∧ xs.length ≤ 258 ∧ (Jvm.Cond.and given_1 narrow_1).before args s = true
def lw_Q (_ : Array Value) (s : State) (o : Outcome) (t : State) : Prop := o = .returned (some (.int 1)) ∧ Framed s o t [] 600000 7290000
def lw_Z (below : List Frame) (a : Array Value) (s : State) : State → Prop := fun t => ∃ o, t.status = .running ∧ Ended t below o ∧ lw_Q a s o t
/-- the law's own end, with 1 on the stack, nothing written that was there before, its room as the claim has it -/
theorem lw_ret {p : Program} {l : Launch} {e : Env} {s : State} {m : MethodId} {below : List Frame} {meth : Method} {c : Code} {b : Nat} (hx : p.tables.exec = Jvm.exec) (hb : c.code = code) (hr : meth.sig.returnType = ret) (hlocks : meth.locks = false) {pc : Nat} {H : Heap} {ls : Array Slot} (hdg : decode code pc = .ok (.ireturn, 1)) : W p l e room_1 s m #[Value.ref b] below meth c H [] 600000 7290000 (lw_Z below #[Value.ref b] s) (F0 m pc ls [.int 1]) := by
  intro T hT X
  obtain ⟨fs, hret, hrun, hended, hW, hframe⟩ := X.leave (v := some (.int 1)) (hlocks := hlocks) (fun h => by rw [hr] at h; cases h)
  have hmeth' : T.vm.method? m = some meth := X.method'
  refine ⟨T.setFrames fs, ?_, .returned (some (.int 1)), hrun, hended, rfl, ⟨_, rfl⟩, hW, hframe⟩
  jvm_step X.here [X.here.top, hx, hb, hdg, hmeth', hr, ret, narrow_b1]
  (try refine ⟨rfl, ?_⟩); (try refine ⟨rfl, ?_⟩)
  first | (intro acts; rw [hret _ acts rfl rfl rfl]) | rw [hret _ _ rfl rfl rfl]
  exact Steps.refl _
/-- what holds at the law's entry: the machine, the code, the tables' words (any of lw_tbl by 'hts w (by decide +kernel)'), the script of L ints xs at the cell b, what the Statement gives of the start (any of its parts by flat_of_before) -/
def lw_At (p : Program) (s : State) (m : MethodId) (meth : Method) (c : Code) (b L : Nat) (xs : Nat → Int32) : Prop :=
  p.tables.exec = Jvm.exec ∧ c.code = code ∧ meth.sig.returnType = ret ∧ c.maxLocals = 4 ∧ s.vm.findClass R_law = some m.cls ∧ (∀ w ∈ lw_tbl, w.before #[Value.ref b] s = true) ∧ va_X b L xs s s.heap ∧ b < s.heap.size ∧ meth.locks = false ∧ (Jvm.Cond.and given_1 narrow_1).before #[Value.ref b] s = true
/-! THE LAW: its loop, case by case -/
theorem and15 (x : Int32) : ∃ k : Nat, k < 16 ∧ x &&& iZ 15 = iZ ((k : Nat) : Int) := by
  refine ⟨x.toBitVec.toNat % 2 ^ 4, Nat.mod_lt _ (by decide), ?_⟩
  have hx : nI x.toBitVec.toNat = x := Int32.toBitVec_inj.mp (by
    show BitVec.ofNat 32 x.toBitVec.toNat = x.toBitVec
    rw [BitVec.ofNat_toNat, BitVec.setWidth_eq])
  have h1 := pk_andN (n := x.toBitVec.toNat) x.toBitVec.isLt (m := iZ 15) 4 (by decide +kernel)
  rw [hx] at h1
  rw [h1, iZ_nat]
/-- one world is written, the other stays -/
theorem keptO {A : Nat → Prop} {D : va_G} {w1 w2 : va_W} {H H1 : Heap} (hD : va_D A (w1 ++ w2)) (hP : va_P D vwCl w2 H) (hk : ∀ q : Nat, q < H.size → ¬ va_A w1 H.size q → H1[q]? = H[q]?) : va_P D vwCl w2 H1 := by
  refine hP.kept (fun k q hq => hk q.1 (hP k q hq).lt (fun z => ?_))
  rcases z with ⟨k1, e1, h1⟩ | h1
  · have hl1 := (List.getElem?_eq_some_iff.mp h1).1
    have a1 : (w1 ++ w2)[k1]? = some (q.1, e1) := by rw [List.getElem?_append_left hl1]; exact h1
    have a2 : (w1 ++ w2)[w1.length + k]? = some q := by rw [List.getElem?_append_right (by omega), Nat.add_sub_cancel_left]; exact hq
    have := hD.1 k1 (w1.length + k) (q.1, e1) q a1 a2 rfl
    omega
  · exact absurd (hP k q hq).lt (by omega)
def LD (A : Nat → Prop) (dB dI : ClassId) (h g : Nat → Nat) : Prop := (∀ u, va_D A (wXu dB dI h u)) ∧ (∀ S, va_D A (wM dI g S)) ∧ (∀ u S, va_D A (wXu dB dI h u ++ wM dI g S)) ∧ ∀ u S, va_D A (wM dI g S ++ wXu dB dI h u)
theorem LD_of {A : Nat → Prop} {dB dI : ClassId} {h g : Nat → Nat} {u0 : XS} {S0 : Par} (hD : va_D A (wXu dB dI h u0 ++ wM dI g S0)) : LD A dB dI h g :=
  ⟨fun u => vd_map (w := wXu dB dI h u0) rfl (hD.sub [0, 1, 2, 3, 4, 5, 6] (by decide) rfl), fun S => vd_map (w := wM dI g S0) rfl (hD.sub [7, 8, 9] (by decide) rfl), fun u S => vd_map (w := wXu dB dI h u0 ++ wM dI g S0) rfl hD, fun u S => vd_map (w := wM dI g S0 ++ wXu dB dI h u0) rfl (hD.sub [7, 8, 9, 0, 1, 2, 3, 4, 5, 6] (by decide) rfl)⟩
theorem arr_known {s : State} {args : Array Value} {ty : FieldType} (h : (Cond.arrayClass ty).before args s = true) : ∃ d : ClassId, ArrOfT s d ty ∧ s.vm.findClass ("[" ++ ty.toString) = some d := by
  obtain ⟨cA, kA, comp, h1, h2, h3⟩ := Cond.arrayClass_spec h
  exact ⟨cA, fun n z => ⟨fun k h => (by cases h), kA, h2, comp, h3⟩, h1⟩
theorem hd_X2_word : yX2_word.cls = RX2 ∧ yX2_word.cls ≠ "java/lang/invoke/MethodHandle" ∧ yX2_word.cls ≠ "java/lang/invoke/VarHandle" ∧ (parseMethodDescriptor yX2_word.desc).map (fun d => d.parameters.length) = some 2 := by decide +kernel
theorem hd_X2_back : yX2_back.cls = RX2 ∧ yX2_back.cls ≠ "java/lang/invoke/MethodHandle" ∧ yX2_back.cls ≠ "java/lang/invoke/VarHandle" ∧ (parseMethodDescriptor yX2_back.desc).map (fun d => d.parameters.length) = some 0 := by decide +kernel
theorem hd_X2_change : yX2_change.cls = RX2 ∧ yX2_change.cls ≠ "java/lang/invoke/MethodHandle" ∧ yX2_change.cls ≠ "java/lang/invoke/VarHandle" ∧ (parseMethodDescriptor yX2_change.desc).map (fun d => d.parameters.length) = some 3 := by decide +kernel
theorem hd_X2_setWidth : yX2_setWidth.cls = RX2 ∧ yX2_setWidth.cls ≠ "java/lang/invoke/MethodHandle" ∧ yX2_setWidth.cls ≠ "java/lang/invoke/VarHandle" ∧ (parseMethodDescriptor yX2_setWidth.desc).map (fun d => d.parameters.length) = some 1 := by decide +kernel
theorem hd_X2_words : yX2_words.cls = RX2 ∧ yX2_words.cls ≠ "java/lang/invoke/MethodHandle" ∧ yX2_words.cls ≠ "java/lang/invoke/VarHandle" ∧ (parseMethodDescriptor yX2_words.desc).map (fun d => d.parameters.length) = some 0 := by decide +kernel
theorem hd_X2_lines : yX2_lines.cls = RX2 ∧ yX2_lines.cls ≠ "java/lang/invoke/MethodHandle" ∧ yX2_lines.cls ≠ "java/lang/invoke/VarHandle" ∧ (parseMethodDescriptor yX2_lines.desc).map (fun d => d.parameters.length) = some 0 := by decide +kernel
theorem hd_X2_lineOf : yX2_lineOf.cls = RX2 ∧ yX2_lineOf.cls ≠ "java/lang/invoke/MethodHandle" ∧ yX2_lineOf.cls ≠ "java/lang/invoke/VarHandle" ∧ (parseMethodDescriptor yX2_lineOf.desc).map (fun d => d.parameters.length) = some 1 := by decide +kernel
theorem hd_X2_lengthOf : yX2_lengthOf.cls = RX2 ∧ yX2_lengthOf.cls ≠ "java/lang/invoke/MethodHandle" ∧ yX2_lengthOf.cls ≠ "java/lang/invoke/VarHandle" ∧ (parseMethodDescriptor yX2_lengthOf.desc).map (fun d => d.parameters.length) = some 1 := by decide +kernel
theorem hd_X2_costWith : yX2_costWith.cls = RX2 ∧ yX2_costWith.cls ≠ "java/lang/invoke/MethodHandle" ∧ yX2_costWith.cls ≠ "java/lang/invoke/VarHandle" ∧ (parseMethodDescriptor yX2_costWith.desc).map (fun d => d.parameters.length) = some 1 := by decide +kernel
theorem hd_X2_costBreaking : yX2_costBreaking.cls = RX2 ∧ yX2_costBreaking.cls ≠ "java/lang/invoke/MethodHandle" ∧ yX2_costBreaking.cls ≠ "java/lang/invoke/VarHandle" ∧ (parseMethodDescriptor yX2_costBreaking.desc).map (fun d => d.parameters.length) = some 1 := by decide +kernel
theorem hd_X2_costKeeping : yX2_costKeeping.cls = RX2 ∧ yX2_costKeeping.cls ≠ "java/lang/invoke/MethodHandle" ∧ yX2_costKeeping.cls ≠ "java/lang/invoke/VarHandle" ∧ (parseMethodDescriptor yX2_costKeeping.desc).map (fun d => d.parameters.length) = some 1 := by decide +kernel
theorem hd_X2_choices : yX2_choices.cls = RX2 ∧ yX2_choices.cls ≠ "java/lang/invoke/MethodHandle" ∧ yX2_choices.cls ≠ "java/lang/invoke/VarHandle" ∧ (parseMethodDescriptor yX2_choices.desc).map (fun d => d.parameters.length) = some 0 := by decide +kernel
set_option maxHeartbeats 4000000 in
set_option maxRecDepth 100000 in
/-- case 0: word -/
theorem lc_0 {p : Program} {e : Env} {s : State} {m : MethodId} {below : List Frame} {meth : Method} {c : Code} (l : Launch) {b L : Nat} {xs : Nat → Int32} {D : va_G} {dB dI : ClassId} {h g : Nat → Nat} {i : Nat} {S : Par} {T : Pri} {H : Heap} {locs : List Loc} {ls : Array Slot} (hL : L ≤ 258) (C0 : lw_At p s m meth c b L xs) (hK : va_K D vwCl (tyA dB dI) s) (hLD : LD (fun q : Nat => s.heap.size ≤ q) dB dI h g) (hi : i + 4 ≤ L) (hok : pb_Ok S) (hPX : va_P D vwCl (wX dB dI h S T) H) (hPM : va_P D vwCl (wM dI g S) H) (hS : va_S (fun q : Nat => s.heap.size ≤ q) s.heap H locs) (hl : lv_has ls 4 [(3, .int (iZ ((i : Nat) : Int))), (0, .ref b), (1, .ref (h 0)), (2, .ref (g 0))])
    (next : ∀ (S : Par) (T : Pri) (H : Heap) (locs : List Loc), pb_Ok S → va_P D vwCl (wX dB dI h S T) H → va_P D vwCl (wM dI g S) H → va_S (fun q : Nat => s.heap.size ≤ q) s.heap H locs → W p l e room_1 s m #[Value.ref b] below meth c H locs 10 209 (lw_Z below #[Value.ref b] s) (F0 m 426 ls [])) : W p l e room_1 s m #[Value.ref b] below meth c H locs 10 209 (lw_Z below #[Value.ref b] s) (F0 m 124 ls []) := by
  obtain ⟨hx, hb, hr, hml, hown, hts0, hX, hbl, hlocks, hgv⟩ := id C0
  have hts : ∀ w ∈ lw_all, w.before #[Value.ref b] s = true := fun w h => hts0 w (lw_all_tbl h)
  have hA : ∀ q : Nat, s.heap.size ≤ q → (fun q : Nat => s.heap.size ≤ q) q := fun _ h => h
  have hbA : ¬ (fun q : Nat => s.heap.size ≤ q) b := Nat.not_le.mpr hbl
  refine lv_aload_n hx hb dL_law_124 rfl (lv_at hl 2 rfl) ?_
  refine lv_aload_n hx hb dL_law_125 rfl (lv_at hl 1 rfl) ?_
  refine lv_iload_n hx hb dL_law_126 rfl (lv_at hl 0 rfl) ?_
  refine zr_const hx hb dL_law_127 ?_
  refine zr_add hx hb dL_law_128 ?_
  refine zr_sld hx hb hX hbl hbA hS (i + 1) (by omega) (by omega) (by omega) dL_law_129 ?_
  refine lv_aload_n hx hb dL_law_130 rfl (lv_at hl 1 rfl) ?_
  refine lv_iload_n hx hb dL_law_131 rfl (lv_at hl 0 rfl) ?_
  refine zr_const hx hb dL_law_132 ?_
  refine zr_add hx hb dL_law_133 ?_
  refine zr_sld hx hb hX hbl hbA hS (i + 2) (by omega) (by omega) (by omega) dL_law_134 ?_
  refine wr_calli (rest := []) (As := [.int (iZ ((xs (i + 1)).toInt)), .int (iZ ((xs (i + 2)).toInt))]) (w := wXu dB dI h) (u0 := (S, T)) (A := (fun q : Nat => s.heap.size ≤ q)) ⟨hx, hb, hml, hown, hts⟩ (mX_word l D dB dI h S T hok (xs (i + 1)).toInt (xs (i + 2)).toInt (Rng_to _) (Rng_to _)) (lw_V q64 q65 q66 q21 q67) hd_X1_word ⟨⟨rfl, rfl⟩, Nat.le_of_ble_eq_true rfl, Nat.le_of_ble_eq_true rfl⟩ hK hPX (hLD.1 _) hS hA (wX_0 ..) rfl rfl hl.1 rfl (Nat.le_of_ble_eq_true rfl) dL_law_135 ⟨Nat.le_of_ble_eq_true rfl, Nat.le_of_ble_eq_true rfl⟩ (fun r1 u1 H1 locs1 hp1 hPX1 hk1 hS1 => ?_)
  have hPM1 := keptO (hLD.2.2.1 _ _) hPM hk1
  clear hS hPX hPM hk1
  obtain ⟨S1, T1⟩ := u1
  obtain ⟨er, eS⟩ := hp1
  dsimp only at er eS
  subst er
  subst eS
  have hPX : va_P D vwCl (wX dB dI h (op_wordS S (xs (i + 1)).toInt (xs (i + 2)).toInt) T1) H1 := hPX1
  have hPM : va_P D vwCl (wM dI g S) H1 := hPM1
  have hS := hS1
  refine lv_aload_n hx hb dL_law_138 rfl (lv_at hl 3 rfl) ?_
  refine lv_aload_n hx hb dL_law_139 rfl (lv_at hl 1 rfl) ?_
  refine lv_iload_n hx hb dL_law_140 rfl (lv_at hl 0 rfl) ?_
  refine zr_const hx hb dL_law_141 ?_
  refine zr_add hx hb dL_law_142 ?_
  refine zr_sld hx hb hX hbl hbA hS (i + 1) (by omega) (by omega) (by omega) dL_law_143 ?_
  refine lv_aload_n hx hb dL_law_144 rfl (lv_at hl 1 rfl) ?_
  refine lv_iload_n hx hb dL_law_145 rfl (lv_at hl 0 rfl) ?_
  refine zr_const hx hb dL_law_146 ?_
  refine zr_add hx hb dL_law_147 ?_
  refine zr_sld hx hb hX hbl hbA hS (i + 2) (by omega) (by omega) (by omega) dL_law_148 ?_
  refine wr_calli (rest := [.int (iZ (op_wordR S (xs (i + 1)).toInt (xs (i + 2)).toInt))]) (As := [.int (iZ ((xs (i + 1)).toInt)), .int (iZ ((xs (i + 2)).toInt))]) (w := wM dI g) (u0 := S) (A := (fun q : Nat => s.heap.size ≤ q)) ⟨hx, hb, hml, hown, hts⟩ (mM_word l D dB dI g S hok (xs (i + 1)).toInt (xs (i + 2)).toInt (Rng_to _) (Rng_to _)) (lw_V q195 q196 q197 q22 q198) hd_X2_word ⟨⟨rfl, rfl⟩, Nat.le_of_ble_eq_true rfl, Nat.le_of_ble_eq_true rfl⟩ hK hPM (hLD.2.1 _) hS hA (wM_0 ..) rfl rfl hl.1 rfl (Nat.le_of_ble_eq_true rfl) dL_law_149 ⟨Nat.le_of_ble_eq_true rfl, Nat.le_of_ble_eq_true rfl⟩ (fun r2 S2 H2 locs2 hp2 hPM2 hk2 hS2 => ?_)
  have hPX2 := keptO (w2 := wXu dB dI h (_, _)) (hLD.2.2.2 _ _) hPX hk2
  obtain ⟨er, eS⟩ := hp2
  subst er
  subst eS
  refine lv_icmp_eq (tgt := 426) hx hb dL_law_152 (by decide) (fun c1 => ?_) (fun c1 => absurd rfl c1)
  exact next _ T1 H2 locs2 (ok_word hok _ _) hPX2 hPM2 hS2
set_option maxHeartbeats 4000000 in
set_option maxRecDepth 100000 in
/-- case 1: back -/
theorem lc_1 {p : Program} {e : Env} {s : State} {m : MethodId} {below : List Frame} {meth : Method} {c : Code} (l : Launch) {b L : Nat} {xs : Nat → Int32} {D : va_G} {dB dI : ClassId} {h g : Nat → Nat} {i : Nat} {S : Par} {T : Pri} {H : Heap} {locs : List Loc} {ls : Array Slot} (hL : L ≤ 258) (C0 : lw_At p s m meth c b L xs) (hK : va_K D vwCl (tyA dB dI) s) (hLD : LD (fun q : Nat => s.heap.size ≤ q) dB dI h g) (hi : i + 4 ≤ L) (hok : pb_Ok S) (hPX : va_P D vwCl (wX dB dI h S T) H) (hPM : va_P D vwCl (wM dI g S) H) (hS : va_S (fun q : Nat => s.heap.size ≤ q) s.heap H locs) (hl : lv_has ls 4 [(3, .int (iZ ((i : Nat) : Int))), (0, .ref b), (1, .ref (h 0)), (2, .ref (g 0))])
    (next : ∀ (S : Par) (T : Pri) (H : Heap) (locs : List Loc), pb_Ok S → va_P D vwCl (wX dB dI h S T) H → va_P D vwCl (wM dI g S) H → va_S (fun q : Nat => s.heap.size ≤ q) s.heap H locs → W p l e room_1 s m #[Value.ref b] below meth c H locs 10 209 (lw_Z below #[Value.ref b] s) (F0 m 426 ls [])) : W p l e room_1 s m #[Value.ref b] below meth c H locs 10 209 (lw_Z below #[Value.ref b] s) (F0 m 157 ls []) := by
  obtain ⟨hx, hb, hr, hml, hown, hts0, hX, hbl, hlocks, hgv⟩ := id C0
  have hts : ∀ w ∈ lw_all, w.before #[Value.ref b] s = true := fun w h => hts0 w (lw_all_tbl h)
  have hA : ∀ q : Nat, s.heap.size ≤ q → (fun q : Nat => s.heap.size ≤ q) q := fun _ h => h
  have hbA : ¬ (fun q : Nat => s.heap.size ≤ q) b := Nat.not_le.mpr hbl
  refine lv_aload_n hx hb dL_law_157 rfl (lv_at hl 2 rfl) ?_
  refine wr_calli (rest := []) (As := []) (w := wXu dB dI h) (u0 := (S, T)) (A := (fun q : Nat => s.heap.size ≤ q)) ⟨hx, hb, hml, hown, hts⟩ (mX_back l D dB dI h S T hok) (lw_V q71 q72 q73 q21 q74) hd_X1_back ⟨⟨rfl, rfl⟩, Nat.le_of_ble_eq_true rfl, Nat.le_of_ble_eq_true rfl⟩ hK hPX (hLD.1 _) hS hA (wX_0 ..) rfl rfl hl.1 rfl (Nat.le_of_ble_eq_true rfl) dL_law_158 ⟨Nat.le_of_ble_eq_true rfl, Nat.le_of_ble_eq_true rfl⟩ (fun r1 u1 H1 locs1 hp1 hPX1 hk1 hS1 => ?_)
  have hPM1 := keptO (hLD.2.2.1 _ _) hPM hk1
  clear hS hPX hPM hk1
  obtain ⟨S1, T1⟩ := u1
  obtain ⟨er, eS⟩ := hp1
  dsimp only at er eS
  subst er
  subst eS
  have hPX : va_P D vwCl (wX dB dI h (op_backS S) T1) H1 := hPX1
  have hPM : va_P D vwCl (wM dI g S) H1 := hPM1
  have hS := hS1
  refine lv_aload_n hx hb dL_law_161 rfl (lv_at hl 3 rfl) ?_
  refine wr_calli (rest := [.int (iZ (op_backR S))]) (As := []) (w := wM dI g) (u0 := S) (A := (fun q : Nat => s.heap.size ≤ q)) ⟨hx, hb, hml, hown, hts⟩ (mM_back l D dB dI g S hok) (lw_V q203 q204 q205 q22 q206) hd_X2_back ⟨⟨rfl, rfl⟩, Nat.le_of_ble_eq_true rfl, Nat.le_of_ble_eq_true rfl⟩ hK hPM (hLD.2.1 _) hS hA (wM_0 ..) rfl rfl hl.1 rfl (Nat.le_of_ble_eq_true rfl) dL_law_162 ⟨Nat.le_of_ble_eq_true rfl, Nat.le_of_ble_eq_true rfl⟩ (fun r2 S2 H2 locs2 hp2 hPM2 hk2 hS2 => ?_)
  have hPX2 := keptO (w2 := wXu dB dI h (_, _)) (hLD.2.2.2 _ _) hPX hk2
  obtain ⟨er, eS⟩ := hp2
  subst er
  subst eS
  refine lv_icmp_eq (tgt := 426) hx hb dL_law_165 (by decide) (fun c1 => ?_) (fun c1 => absurd rfl c1)
  exact next _ T1 H2 locs2 (ok_back hok) hPX2 hPM2 hS2
set_option maxHeartbeats 4000000 in
set_option maxRecDepth 100000 in
/-- case 2: change -/
theorem lc_2 {p : Program} {e : Env} {s : State} {m : MethodId} {below : List Frame} {meth : Method} {c : Code} (l : Launch) {b L : Nat} {xs : Nat → Int32} {D : va_G} {dB dI : ClassId} {h g : Nat → Nat} {i : Nat} {S : Par} {T : Pri} {H : Heap} {locs : List Loc} {ls : Array Slot} (hL : L ≤ 258) (C0 : lw_At p s m meth c b L xs) (hK : va_K D vwCl (tyA dB dI) s) (hLD : LD (fun q : Nat => s.heap.size ≤ q) dB dI h g) (hi : i + 4 ≤ L) (hok : pb_Ok S) (hPX : va_P D vwCl (wX dB dI h S T) H) (hPM : va_P D vwCl (wM dI g S) H) (hS : va_S (fun q : Nat => s.heap.size ≤ q) s.heap H locs) (hl : lv_has ls 4 [(3, .int (iZ ((i : Nat) : Int))), (0, .ref b), (1, .ref (h 0)), (2, .ref (g 0))])
    (next : ∀ (S : Par) (T : Pri) (H : Heap) (locs : List Loc), pb_Ok S → va_P D vwCl (wX dB dI h S T) H → va_P D vwCl (wM dI g S) H → va_S (fun q : Nat => s.heap.size ≤ q) s.heap H locs → W p l e room_1 s m #[Value.ref b] below meth c H locs 10 209 (lw_Z below #[Value.ref b] s) (F0 m 426 ls [])) : W p l e room_1 s m #[Value.ref b] below meth c H locs 10 209 (lw_Z below #[Value.ref b] s) (F0 m 170 ls []) := by
  obtain ⟨hx, hb, hr, hml, hown, hts0, hX, hbl, hlocks, hgv⟩ := id C0
  have hts : ∀ w ∈ lw_all, w.before #[Value.ref b] s = true := fun w h => hts0 w (lw_all_tbl h)
  have hA : ∀ q : Nat, s.heap.size ≤ q → (fun q : Nat => s.heap.size ≤ q) q := fun _ h => h
  have hbA : ¬ (fun q : Nat => s.heap.size ≤ q) b := Nat.not_le.mpr hbl
  refine lv_aload_n hx hb dL_law_170 rfl (lv_at hl 2 rfl) ?_
  refine lv_aload_n hx hb dL_law_171 rfl (lv_at hl 1 rfl) ?_
  refine lv_iload_n hx hb dL_law_172 rfl (lv_at hl 0 rfl) ?_
  refine zr_const hx hb dL_law_173 ?_
  refine zr_add hx hb dL_law_174 ?_
  refine zr_sld hx hb hX hbl hbA hS (i + 1) (by omega) (by omega) (by omega) dL_law_175 ?_
  refine lv_aload_n hx hb dL_law_176 rfl (lv_at hl 1 rfl) ?_
  refine lv_iload_n hx hb dL_law_177 rfl (lv_at hl 0 rfl) ?_
  refine zr_const hx hb dL_law_178 ?_
  refine zr_add hx hb dL_law_179 ?_
  refine zr_sld hx hb hX hbl hbA hS (i + 2) (by omega) (by omega) (by omega) dL_law_180 ?_
  refine lv_aload_n hx hb dL_law_181 rfl (lv_at hl 1 rfl) ?_
  refine lv_iload_n hx hb dL_law_182 rfl (lv_at hl 0 rfl) ?_
  refine zr_const hx hb dL_law_183 ?_
  refine zr_add hx hb dL_law_184 ?_
  refine zr_sld hx hb hX hbl hbA hS (i + 3) (by omega) (by omega) (by omega) dL_law_185 ?_
  refine wr_calli (rest := []) (As := [.int (iZ ((xs (i + 1)).toInt)), .int (iZ ((xs (i + 2)).toInt)), .int (iZ ((xs (i + 3)).toInt))]) (w := wXu dB dI h) (u0 := (S, T)) (A := (fun q : Nat => s.heap.size ≤ q)) ⟨hx, hb, hml, hown, hts⟩ (mX_change l D dB dI h S T hok (xs (i + 1)).toInt (xs (i + 2)).toInt (xs (i + 3)).toInt (Rng_to _) (Rng_to _) (Rng_to _)) (lw_V q75 q76 q77 q21 q78) hd_X1_change ⟨⟨rfl, rfl⟩, Nat.le_of_ble_eq_true rfl, Nat.le_of_ble_eq_true rfl⟩ hK hPX (hLD.1 _) hS hA (wX_0 ..) rfl rfl hl.1 rfl (Nat.le_of_ble_eq_true rfl) dL_law_186 ⟨Nat.le_of_ble_eq_true rfl, Nat.le_of_ble_eq_true rfl⟩ (fun r1 u1 H1 locs1 hp1 hPX1 hk1 hS1 => ?_)
  have hPM1 := keptO (hLD.2.2.1 _ _) hPM hk1
  clear hS hPX hPM hk1
  obtain ⟨S1, T1⟩ := u1
  obtain ⟨er, eS⟩ := hp1
  dsimp only at er eS
  subst er
  subst eS
  have hPX : va_P D vwCl (wX dB dI h (op_changeS S (xs (i + 1)).toInt (xs (i + 2)).toInt (xs (i + 3)).toInt) T1) H1 := hPX1
  have hPM : va_P D vwCl (wM dI g S) H1 := hPM1
  have hS := hS1
  refine lv_aload_n hx hb dL_law_189 rfl (lv_at hl 3 rfl) ?_
  refine lv_aload_n hx hb dL_law_190 rfl (lv_at hl 1 rfl) ?_
  refine lv_iload_n hx hb dL_law_191 rfl (lv_at hl 0 rfl) ?_
  refine zr_const hx hb dL_law_192 ?_
  refine zr_add hx hb dL_law_193 ?_
  refine zr_sld hx hb hX hbl hbA hS (i + 1) (by omega) (by omega) (by omega) dL_law_194 ?_
  refine lv_aload_n hx hb dL_law_195 rfl (lv_at hl 1 rfl) ?_
  refine lv_iload_n hx hb dL_law_196 rfl (lv_at hl 0 rfl) ?_
  refine zr_const hx hb dL_law_197 ?_
  refine zr_add hx hb dL_law_198 ?_
  refine zr_sld hx hb hX hbl hbA hS (i + 2) (by omega) (by omega) (by omega) dL_law_199 ?_
  refine lv_aload_n hx hb dL_law_200 rfl (lv_at hl 1 rfl) ?_
  refine lv_iload_n hx hb dL_law_201 rfl (lv_at hl 0 rfl) ?_
  refine zr_const hx hb dL_law_202 ?_
  refine zr_add hx hb dL_law_203 ?_
  refine zr_sld hx hb hX hbl hbA hS (i + 3) (by omega) (by omega) (by omega) dL_law_204 ?_
  refine wr_calli (rest := [.int (iZ (op_changeR S (xs (i + 1)).toInt (xs (i + 2)).toInt (xs (i + 3)).toInt))]) (As := [.int (iZ ((xs (i + 1)).toInt)), .int (iZ ((xs (i + 2)).toInt)), .int (iZ ((xs (i + 3)).toInt))]) (w := wM dI g) (u0 := S) (A := (fun q : Nat => s.heap.size ≤ q)) ⟨hx, hb, hml, hown, hts⟩ (mM_change l D dB dI g S hok (xs (i + 1)).toInt (xs (i + 2)).toInt (xs (i + 3)).toInt (Rng_to _) (Rng_to _) (Rng_to _)) (lw_V q207 q208 q209 q22 q210) hd_X2_change ⟨⟨rfl, rfl⟩, Nat.le_of_ble_eq_true rfl, Nat.le_of_ble_eq_true rfl⟩ hK hPM (hLD.2.1 _) hS hA (wM_0 ..) rfl rfl hl.1 rfl (Nat.le_of_ble_eq_true rfl) dL_law_205 ⟨Nat.le_of_ble_eq_true rfl, Nat.le_of_ble_eq_true rfl⟩ (fun r2 S2 H2 locs2 hp2 hPM2 hk2 hS2 => ?_)
  have hPX2 := keptO (w2 := wXu dB dI h (_, _)) (hLD.2.2.2 _ _) hPX hk2
  obtain ⟨er, eS⟩ := hp2
  subst er
  subst eS
  refine lv_icmp_eq (tgt := 426) hx hb dL_law_208 (by decide) (fun c1 => ?_) (fun c1 => absurd rfl c1)
  exact next _ T1 H2 locs2 (ok_change hok _ _ _) hPX2 hPM2 hS2
set_option maxHeartbeats 4000000 in
set_option maxRecDepth 100000 in
/-- case 3: setWidth -/
theorem lc_3 {p : Program} {e : Env} {s : State} {m : MethodId} {below : List Frame} {meth : Method} {c : Code} (l : Launch) {b L : Nat} {xs : Nat → Int32} {D : va_G} {dB dI : ClassId} {h g : Nat → Nat} {i : Nat} {S : Par} {T : Pri} {H : Heap} {locs : List Loc} {ls : Array Slot} (hL : L ≤ 258) (C0 : lw_At p s m meth c b L xs) (hK : va_K D vwCl (tyA dB dI) s) (hLD : LD (fun q : Nat => s.heap.size ≤ q) dB dI h g) (hi : i + 4 ≤ L) (hok : pb_Ok S) (hPX : va_P D vwCl (wX dB dI h S T) H) (hPM : va_P D vwCl (wM dI g S) H) (hS : va_S (fun q : Nat => s.heap.size ≤ q) s.heap H locs) (hl : lv_has ls 4 [(3, .int (iZ ((i : Nat) : Int))), (0, .ref b), (1, .ref (h 0)), (2, .ref (g 0))])
    (next : ∀ (S : Par) (T : Pri) (H : Heap) (locs : List Loc), pb_Ok S → va_P D vwCl (wX dB dI h S T) H → va_P D vwCl (wM dI g S) H → va_S (fun q : Nat => s.heap.size ≤ q) s.heap H locs → W p l e room_1 s m #[Value.ref b] below meth c H locs 10 209 (lw_Z below #[Value.ref b] s) (F0 m 426 ls [])) : W p l e room_1 s m #[Value.ref b] below meth c H locs 10 209 (lw_Z below #[Value.ref b] s) (F0 m 213 ls []) := by
  obtain ⟨hx, hb, hr, hml, hown, hts0, hX, hbl, hlocks, hgv⟩ := id C0
  have hts : ∀ w ∈ lw_all, w.before #[Value.ref b] s = true := fun w h => hts0 w (lw_all_tbl h)
  have hA : ∀ q : Nat, s.heap.size ≤ q → (fun q : Nat => s.heap.size ≤ q) q := fun _ h => h
  have hbA : ¬ (fun q : Nat => s.heap.size ≤ q) b := Nat.not_le.mpr hbl
  refine lv_aload_n hx hb dL_law_213 rfl (lv_at hl 2 rfl) ?_
  refine lv_aload_n hx hb dL_law_214 rfl (lv_at hl 1 rfl) ?_
  refine lv_iload_n hx hb dL_law_215 rfl (lv_at hl 0 rfl) ?_
  refine zr_const hx hb dL_law_216 ?_
  refine zr_add hx hb dL_law_217 ?_
  refine zr_sld hx hb hX hbl hbA hS (i + 1) (by omega) (by omega) (by omega) dL_law_218 ?_
  refine wr_calli (rest := []) (As := [.int (iZ ((xs (i + 1)).toInt))]) (w := wXu dB dI h) (u0 := (S, T)) (A := (fun q : Nat => s.heap.size ≤ q)) ⟨hx, hb, hml, hown, hts⟩ (mX_setWidth l D dB dI h S T (xs (i + 1)).toInt (Rng_to _)) (lw_V q79 q80 q81 q21 q82) hd_X1_setWidth ⟨⟨rfl, rfl⟩, Nat.le_of_ble_eq_true rfl, Nat.le_of_ble_eq_true rfl⟩ hK hPX (hLD.1 _) hS hA (wX_0 ..) rfl rfl hl.1 rfl (Nat.le_of_ble_eq_true rfl) dL_law_219 ⟨Nat.le_of_ble_eq_true rfl, Nat.le_of_ble_eq_true rfl⟩ (fun r1 u1 H1 locs1 hp1 hPX1 hk1 hS1 => ?_)
  have hPM1 := keptO (hLD.2.2.1 _ _) hPM hk1
  clear hS hPX hPM hk1
  obtain ⟨S1, T1⟩ := u1
  obtain ⟨er, eS⟩ := hp1
  dsimp only at er eS
  subst er
  subst eS
  have hPX : va_P D vwCl (wX dB dI h (op_widthS S (xs (i + 1)).toInt) T1) H1 := hPX1
  have hPM : va_P D vwCl (wM dI g S) H1 := hPM1
  have hS := hS1
  refine lv_aload_n hx hb dL_law_222 rfl (lv_at hl 3 rfl) ?_
  refine lv_aload_n hx hb dL_law_223 rfl (lv_at hl 1 rfl) ?_
  refine lv_iload_n hx hb dL_law_224 rfl (lv_at hl 0 rfl) ?_
  refine zr_const hx hb dL_law_225 ?_
  refine zr_add hx hb dL_law_226 ?_
  refine zr_sld hx hb hX hbl hbA hS (i + 1) (by omega) (by omega) (by omega) dL_law_227 ?_
  refine wr_calli (rest := [.int (iZ (op_widthR (xs (i + 1)).toInt))]) (As := [.int (iZ ((xs (i + 1)).toInt))]) (w := wM dI g) (u0 := S) (A := (fun q : Nat => s.heap.size ≤ q)) ⟨hx, hb, hml, hown, hts⟩ (mM_setWidth l D dB dI g S (xs (i + 1)).toInt (Rng_to _)) (lw_V q215 q216 q217 q22 q218) hd_X2_setWidth ⟨⟨rfl, rfl⟩, Nat.le_of_ble_eq_true rfl, Nat.le_of_ble_eq_true rfl⟩ hK hPM (hLD.2.1 _) hS hA (wM_0 ..) rfl rfl hl.1 rfl (Nat.le_of_ble_eq_true rfl) dL_law_228 ⟨Nat.le_of_ble_eq_true rfl, Nat.le_of_ble_eq_true rfl⟩ (fun r2 S2 H2 locs2 hp2 hPM2 hk2 hS2 => ?_)
  have hPX2 := keptO (w2 := wXu dB dI h (_, _)) (hLD.2.2.2 _ _) hPX hk2
  obtain ⟨er, eS⟩ := hp2
  subst er
  subst eS
  refine lv_icmp_eq (tgt := 426) hx hb dL_law_231 (by decide) (fun c1 => ?_) (fun c1 => absurd rfl c1)
  exact next _ T1 H2 locs2 (ok_width hok _) hPX2 hPM2 hS2
set_option maxHeartbeats 4000000 in
set_option maxRecDepth 100000 in
/-- case 4: words -/
theorem lc_4 {p : Program} {e : Env} {s : State} {m : MethodId} {below : List Frame} {meth : Method} {c : Code} (l : Launch) {b L : Nat} {xs : Nat → Int32} {D : va_G} {dB dI : ClassId} {h g : Nat → Nat} {i : Nat} {S : Par} {T : Pri} {H : Heap} {locs : List Loc} {ls : Array Slot} (hL : L ≤ 258) (C0 : lw_At p s m meth c b L xs) (hK : va_K D vwCl (tyA dB dI) s) (hLD : LD (fun q : Nat => s.heap.size ≤ q) dB dI h g) (hi : i + 4 ≤ L) (hok : pb_Ok S) (hPX : va_P D vwCl (wX dB dI h S T) H) (hPM : va_P D vwCl (wM dI g S) H) (hS : va_S (fun q : Nat => s.heap.size ≤ q) s.heap H locs) (hl : lv_has ls 4 [(3, .int (iZ ((i : Nat) : Int))), (0, .ref b), (1, .ref (h 0)), (2, .ref (g 0))])
    (next : ∀ (S : Par) (T : Pri) (H : Heap) (locs : List Loc), pb_Ok S → va_P D vwCl (wX dB dI h S T) H → va_P D vwCl (wM dI g S) H → va_S (fun q : Nat => s.heap.size ≤ q) s.heap H locs → W p l e room_1 s m #[Value.ref b] below meth c H locs 10 209 (lw_Z below #[Value.ref b] s) (F0 m 426 ls [])) : W p l e room_1 s m #[Value.ref b] below meth c H locs 10 209 (lw_Z below #[Value.ref b] s) (F0 m 236 ls []) := by
  obtain ⟨hx, hb, hr, hml, hown, hts0, hX, hbl, hlocks, hgv⟩ := id C0
  have hts : ∀ w ∈ lw_all, w.before #[Value.ref b] s = true := fun w h => hts0 w (lw_all_tbl h)
  have hA : ∀ q : Nat, s.heap.size ≤ q → (fun q : Nat => s.heap.size ≤ q) q := fun _ h => h
  have hbA : ¬ (fun q : Nat => s.heap.size ≤ q) b := Nat.not_le.mpr hbl
  refine lv_aload_n hx hb dL_law_236 rfl (lv_at hl 2 rfl) ?_
  refine wr_calli (rest := []) (As := []) (w := wXu dB dI h) (u0 := (S, T)) (A := (fun q : Nat => s.heap.size ≤ q)) ⟨hx, hb, hml, hown, hts⟩ (mX_words l D dB dI h S T) (lw_V q83 q84 q85 q21 q86) hd_X1_words ⟨⟨rfl, rfl⟩, Nat.le_of_ble_eq_true rfl, Nat.le_of_ble_eq_true rfl⟩ hK hPX (hLD.1 _) hS hA (wX_0 ..) rfl rfl hl.1 rfl (Nat.le_of_ble_eq_true rfl) dL_law_237 ⟨Nat.le_of_ble_eq_true rfl, Nat.le_of_ble_eq_true rfl⟩ (fun r1 u1 H1 locs1 hp1 hPX1 hk1 hS1 => ?_)
  have hPM1 := keptO (hLD.2.2.1 _ _) hPM hk1
  clear hS hPX hPM hk1
  obtain ⟨S1, T1⟩ := u1
  obtain ⟨er, eS⟩ := hp1
  dsimp only at er eS
  subst er
  subst eS
  have hPX : va_P D vwCl (wX dB dI h S T1) H1 := hPX1
  have hPM : va_P D vwCl (wM dI g S) H1 := hPM1
  have hS := hS1
  refine lv_aload_n hx hb dL_law_240 rfl (lv_at hl 3 rfl) ?_
  refine zr_callV (rest := [.int (iZ ((S.c : Int)))]) (As := []) ⟨hx, hb, hml, hown, hts⟩ (mM_words l D dB dI g S) (lw_V q219 q220 q221 q22 q222) hd_X2_words ⟨⟨rfl, rfl⟩, Nat.le_of_ble_eq_true rfl, Nat.le_of_ble_eq_true rfl⟩ hK hPM (wM_0 ..) rfl rfl hl.1 rfl (Nat.le_of_ble_eq_true rfl) dL_law_241 ⟨Nat.le_of_ble_eq_true rfl, Nat.le_of_ble_eq_true rfl⟩ ?_
  refine lv_icmp_eq (tgt := 426) hx hb dL_law_244 (by decide) (fun c1 => ?_) (fun c1 => absurd (rfl) c1)
  exact next S T1 H1 locs1 hok hPX hPM hS
set_option maxHeartbeats 4000000 in
set_option maxRecDepth 100000 in
/-- case 5: cost -/
theorem lc_5 {p : Program} {e : Env} {s : State} {m : MethodId} {below : List Frame} {meth : Method} {c : Code} (l : Launch) {b L : Nat} {xs : Nat → Int32} {D : va_G} {dB dI : ClassId} {h g : Nat → Nat} {i : Nat} {S : Par} {T : Pri} {H : Heap} {locs : List Loc} {ls : Array Slot} (hL : L ≤ 258) (C0 : lw_At p s m meth c b L xs) (hK : va_K D vwCl (tyA dB dI) s) (hLD : LD (fun q : Nat => s.heap.size ≤ q) dB dI h g) (hi : i + 4 ≤ L) (hok : pb_Ok S) (hPX : va_P D vwCl (wX dB dI h S T) H) (hPM : va_P D vwCl (wM dI g S) H) (hS : va_S (fun q : Nat => s.heap.size ≤ q) s.heap H locs) (hl : lv_has ls 4 [(3, .int (iZ ((i : Nat) : Int))), (0, .ref b), (1, .ref (h 0)), (2, .ref (g 0))])
    (next : ∀ (S : Par) (T : Pri) (H : Heap) (locs : List Loc), pb_Ok S → va_P D vwCl (wX dB dI h S T) H → va_P D vwCl (wM dI g S) H → va_S (fun q : Nat => s.heap.size ≤ q) s.heap H locs → W p l e room_1 s m #[Value.ref b] below meth c H locs 10 209 (lw_Z below #[Value.ref b] s) (F0 m 426 ls [])) : W p l e room_1 s m #[Value.ref b] below meth c H locs 10 209 (lw_Z below #[Value.ref b] s) (F0 m 249 ls []) := by
  obtain ⟨hx, hb, hr, hml, hown, hts0, hX, hbl, hlocks, hgv⟩ := id C0
  have hts : ∀ w ∈ lw_all, w.before #[Value.ref b] s = true := fun w h => hts0 w (lw_all_tbl h)
  have hA : ∀ q : Nat, s.heap.size ≤ q → (fun q : Nat => s.heap.size ≤ q) q := fun _ h => h
  have hbA : ¬ (fun q : Nat => s.heap.size ≤ q) b := Nat.not_le.mpr hbl
  refine lv_aload_n hx hb dL_law_249 rfl (lv_at hl 2 rfl) ?_
  refine wr_calli (rest := []) (As := []) (w := wXu dB dI h) (u0 := (S, T)) (A := (fun q : Nat => s.heap.size ≤ q)) ⟨hx, hb, hml, hown, hts⟩ (mX_cost l D dB dI h S T hok) (lw_V q87 q88 q89 q21 q90) hd_X1_cost ⟨⟨rfl, rfl⟩, Nat.le_of_ble_eq_true rfl, Nat.le_of_ble_eq_true rfl⟩ hK hPX (hLD.1 _) hS hA (wX_0 ..) rfl rfl hl.1 rfl (Nat.le_of_ble_eq_true rfl) dL_law_250 ⟨Nat.le_of_ble_eq_true rfl, Nat.le_of_ble_eq_true rfl⟩ (fun r1 u1 H1 locs1 hp1 hPX1 hk1 hS1 => ?_)
  have hPM1 := keptO (hLD.2.2.1 _ _) hPM hk1
  clear hS hPX hPM hk1
  obtain ⟨S1, T1⟩ := u1
  obtain ⟨er, eS⟩ := hp1
  dsimp only at er eS
  subst er
  subst eS
  have hPX : va_P D vwCl (wX dB dI h S T1) H1 := hPX1
  have hPM : va_P D vwCl (wM dI g S) H1 := hPM1
  have hS := hS1
  refine lv_aload_n hx hb dL_law_253 rfl (lv_at hl 3 rfl) ?_
  refine zr_callV (rest := [.int (iZ (xa_cost S))]) (As := []) ⟨hx, hb, hml, hown, hts⟩ (mM_cost l D dB dI g S hok) (lw_V q223 q224 q225 q22 q226) hd_X2_cost ⟨⟨rfl, rfl⟩, Nat.le_of_ble_eq_true rfl, Nat.le_of_ble_eq_true rfl⟩ hK hPM (wM_0 ..) rfl rfl hl.1 rfl (Nat.le_of_ble_eq_true rfl) dL_law_254 ⟨Nat.le_of_ble_eq_true rfl, Nat.le_of_ble_eq_true rfl⟩ ?_
  refine lv_icmp_eq (tgt := 426) hx hb dL_law_257 (by decide) (fun c1 => ?_) (fun c1 => absurd (by rw [th_cost hok]) c1)
  exact next S T1 H1 locs1 hok hPX hPM hS
set_option maxHeartbeats 4000000 in
set_option maxRecDepth 100000 in
/-- case 6: lines -/
theorem lc_6 {p : Program} {e : Env} {s : State} {m : MethodId} {below : List Frame} {meth : Method} {c : Code} (l : Launch) {b L : Nat} {xs : Nat → Int32} {D : va_G} {dB dI : ClassId} {h g : Nat → Nat} {i : Nat} {S : Par} {T : Pri} {H : Heap} {locs : List Loc} {ls : Array Slot} (hL : L ≤ 258) (C0 : lw_At p s m meth c b L xs) (hK : va_K D vwCl (tyA dB dI) s) (hLD : LD (fun q : Nat => s.heap.size ≤ q) dB dI h g) (hi : i + 4 ≤ L) (hok : pb_Ok S) (hPX : va_P D vwCl (wX dB dI h S T) H) (hPM : va_P D vwCl (wM dI g S) H) (hS : va_S (fun q : Nat => s.heap.size ≤ q) s.heap H locs) (hl : lv_has ls 4 [(3, .int (iZ ((i : Nat) : Int))), (0, .ref b), (1, .ref (h 0)), (2, .ref (g 0))])
    (next : ∀ (S : Par) (T : Pri) (H : Heap) (locs : List Loc), pb_Ok S → va_P D vwCl (wX dB dI h S T) H → va_P D vwCl (wM dI g S) H → va_S (fun q : Nat => s.heap.size ≤ q) s.heap H locs → W p l e room_1 s m #[Value.ref b] below meth c H locs 10 209 (lw_Z below #[Value.ref b] s) (F0 m 426 ls [])) : W p l e room_1 s m #[Value.ref b] below meth c H locs 10 209 (lw_Z below #[Value.ref b] s) (F0 m 262 ls []) := by
  obtain ⟨hx, hb, hr, hml, hown, hts0, hX, hbl, hlocks, hgv⟩ := id C0
  have hts : ∀ w ∈ lw_all, w.before #[Value.ref b] s = true := fun w h => hts0 w (lw_all_tbl h)
  have hA : ∀ q : Nat, s.heap.size ≤ q → (fun q : Nat => s.heap.size ≤ q) q := fun _ h => h
  have hbA : ¬ (fun q : Nat => s.heap.size ≤ q) b := Nat.not_le.mpr hbl
  refine lv_aload_n hx hb dL_law_262 rfl (lv_at hl 2 rfl) ?_
  refine wr_calli (rest := []) (As := []) (w := wXu dB dI h) (u0 := (S, T)) (A := (fun q : Nat => s.heap.size ≤ q)) ⟨hx, hb, hml, hown, hts⟩ (mX_lines l D dB dI h S T hok) (lw_V q121 q122 q123 q21 q124) hd_X1_lines ⟨⟨rfl, rfl⟩, Nat.le_of_ble_eq_true rfl, Nat.le_of_ble_eq_true rfl⟩ hK hPX (hLD.1 _) hS hA (wX_0 ..) rfl rfl hl.1 rfl (Nat.le_of_ble_eq_true rfl) dL_law_263 ⟨Nat.le_of_ble_eq_true rfl, Nat.le_of_ble_eq_true rfl⟩ (fun r1 u1 H1 locs1 hp1 hPX1 hk1 hS1 => ?_)
  have hPM1 := keptO (hLD.2.2.1 _ _) hPM hk1
  clear hS hPX hPM hk1
  obtain ⟨S1, T1⟩ := u1
  obtain ⟨er, eS⟩ := hp1
  dsimp only at er eS
  subst er
  subst eS
  have hPX : va_P D vwCl (wX dB dI h S T1) H1 := hPX1
  have hPM : va_P D vwCl (wM dI g S) H1 := hPM1
  have hS := hS1
  refine lv_aload_n hx hb dL_law_266 rfl (lv_at hl 3 rfl) ?_
  refine zr_callV (rest := [.int (iZ (xa_lines S))]) (As := []) ⟨hx, hb, hml, hown, hts⟩ (mM_lines l D dB dI g S hok) (lw_V q256 q257 q258 q22 q259) hd_X2_lines ⟨⟨rfl, rfl⟩, Nat.le_of_ble_eq_true rfl, Nat.le_of_ble_eq_true rfl⟩ hK hPM (wM_0 ..) rfl rfl hl.1 rfl (Nat.le_of_ble_eq_true rfl) dL_law_267 ⟨Nat.le_of_ble_eq_true rfl, Nat.le_of_ble_eq_true rfl⟩ ?_
  refine lv_icmp_eq (tgt := 426) hx hb dL_law_270 (by decide) (fun c1 => ?_) (fun c1 => absurd (by rw [th_lines hok]) c1)
  exact next S T1 H1 locs1 hok hPX hPM hS
set_option maxHeartbeats 4000000 in
set_option maxRecDepth 100000 in
/-- case 7: lineOf -/
theorem lc_7 {p : Program} {e : Env} {s : State} {m : MethodId} {below : List Frame} {meth : Method} {c : Code} (l : Launch) {b L : Nat} {xs : Nat → Int32} {D : va_G} {dB dI : ClassId} {h g : Nat → Nat} {i : Nat} {S : Par} {T : Pri} {H : Heap} {locs : List Loc} {ls : Array Slot} (hL : L ≤ 258) (C0 : lw_At p s m meth c b L xs) (hK : va_K D vwCl (tyA dB dI) s) (hLD : LD (fun q : Nat => s.heap.size ≤ q) dB dI h g) (hi : i + 4 ≤ L) (hok : pb_Ok S) (hPX : va_P D vwCl (wX dB dI h S T) H) (hPM : va_P D vwCl (wM dI g S) H) (hS : va_S (fun q : Nat => s.heap.size ≤ q) s.heap H locs) (hl : lv_has ls 4 [(3, .int (iZ ((i : Nat) : Int))), (0, .ref b), (1, .ref (h 0)), (2, .ref (g 0))])
    (next : ∀ (S : Par) (T : Pri) (H : Heap) (locs : List Loc), pb_Ok S → va_P D vwCl (wX dB dI h S T) H → va_P D vwCl (wM dI g S) H → va_S (fun q : Nat => s.heap.size ≤ q) s.heap H locs → W p l e room_1 s m #[Value.ref b] below meth c H locs 10 209 (lw_Z below #[Value.ref b] s) (F0 m 426 ls [])) : W p l e room_1 s m #[Value.ref b] below meth c H locs 10 209 (lw_Z below #[Value.ref b] s) (F0 m 275 ls []) := by
  obtain ⟨hx, hb, hr, hml, hown, hts0, hX, hbl, hlocks, hgv⟩ := id C0
  have hts : ∀ w ∈ lw_all, w.before #[Value.ref b] s = true := fun w h => hts0 w (lw_all_tbl h)
  have hA : ∀ q : Nat, s.heap.size ≤ q → (fun q : Nat => s.heap.size ≤ q) q := fun _ h => h
  have hbA : ¬ (fun q : Nat => s.heap.size ≤ q) b := Nat.not_le.mpr hbl
  refine lv_aload_n hx hb dL_law_275 rfl (lv_at hl 2 rfl) ?_
  refine lv_aload_n hx hb dL_law_276 rfl (lv_at hl 1 rfl) ?_
  refine lv_iload_n hx hb dL_law_277 rfl (lv_at hl 0 rfl) ?_
  refine zr_const hx hb dL_law_278 ?_
  refine zr_add hx hb dL_law_279 ?_
  refine zr_sld hx hb hX hbl hbA hS (i + 1) (by omega) (by omega) (by omega) dL_law_280 ?_
  refine wr_calli (rest := []) (As := [.int (iZ ((xs (i + 1)).toInt))]) (w := wXu dB dI h) (u0 := (S, T)) (A := (fun q : Nat => s.heap.size ≤ q)) ⟨hx, hb, hml, hown, hts⟩ (mX_lineOf l D dB dI h S T hok (xs (i + 1)).toInt (Rng_to _)) (lw_V q129 q130 q131 q21 q132) hd_X1_lineOf ⟨⟨rfl, rfl⟩, Nat.le_of_ble_eq_true rfl, Nat.le_of_ble_eq_true rfl⟩ hK hPX (hLD.1 _) hS hA (wX_0 ..) rfl rfl hl.1 rfl (Nat.le_of_ble_eq_true rfl) dL_law_281 ⟨Nat.le_of_ble_eq_true rfl, Nat.le_of_ble_eq_true rfl⟩ (fun r1 u1 H1 locs1 hp1 hPX1 hk1 hS1 => ?_)
  have hPM1 := keptO (hLD.2.2.1 _ _) hPM hk1
  clear hS hPX hPM hk1
  obtain ⟨S1, T1⟩ := u1
  obtain ⟨er, eS⟩ := hp1
  dsimp only at er eS
  subst er
  subst eS
  have hPX : va_P D vwCl (wX dB dI h S T1) H1 := hPX1
  have hPM : va_P D vwCl (wM dI g S) H1 := hPM1
  have hS := hS1
  refine lv_aload_n hx hb dL_law_284 rfl (lv_at hl 3 rfl) ?_
  refine lv_aload_n hx hb dL_law_285 rfl (lv_at hl 1 rfl) ?_
  refine lv_iload_n hx hb dL_law_286 rfl (lv_at hl 0 rfl) ?_
  refine zr_const hx hb dL_law_287 ?_
  refine zr_add hx hb dL_law_288 ?_
  refine zr_sld hx hb hX hbl hbA hS (i + 1) (by omega) (by omega) (by omega) dL_law_289 ?_
  refine zr_callV (rest := [.int (iZ (xa_lineOf S (xs (i + 1)).toInt))]) (As := [.int (iZ ((xs (i + 1)).toInt))]) ⟨hx, hb, hml, hown, hts⟩ (mM_lineOf l D dB dI g S hok (xs (i + 1)).toInt (Rng_to _)) (lw_V q260 q261 q262 q22 q263) hd_X2_lineOf ⟨⟨rfl, rfl⟩, Nat.le_of_ble_eq_true rfl, Nat.le_of_ble_eq_true rfl⟩ hK hPM (wM_0 ..) rfl rfl hl.1 rfl (Nat.le_of_ble_eq_true rfl) dL_law_290 ⟨Nat.le_of_ble_eq_true rfl, Nat.le_of_ble_eq_true rfl⟩ ?_
  refine lv_icmp_eq (tgt := 426) hx hb dL_law_293 (by decide) (fun c1 => ?_) (fun c1 => absurd (by rw [th_lineOf hok (xs (i + 1)).toInt]) c1)
  exact next S T1 H1 locs1 hok hPX hPM hS
set_option maxHeartbeats 4000000 in
set_option maxRecDepth 100000 in
/-- case 8: endOf -/
theorem lc_8 {p : Program} {e : Env} {s : State} {m : MethodId} {below : List Frame} {meth : Method} {c : Code} (l : Launch) {b L : Nat} {xs : Nat → Int32} {D : va_G} {dB dI : ClassId} {h g : Nat → Nat} {i : Nat} {S : Par} {T : Pri} {H : Heap} {locs : List Loc} {ls : Array Slot} (hL : L ≤ 258) (C0 : lw_At p s m meth c b L xs) (hK : va_K D vwCl (tyA dB dI) s) (hLD : LD (fun q : Nat => s.heap.size ≤ q) dB dI h g) (hi : i + 4 ≤ L) (hok : pb_Ok S) (hPX : va_P D vwCl (wX dB dI h S T) H) (hPM : va_P D vwCl (wM dI g S) H) (hS : va_S (fun q : Nat => s.heap.size ≤ q) s.heap H locs) (hl : lv_has ls 4 [(3, .int (iZ ((i : Nat) : Int))), (0, .ref b), (1, .ref (h 0)), (2, .ref (g 0))])
    (next : ∀ (S : Par) (T : Pri) (H : Heap) (locs : List Loc), pb_Ok S → va_P D vwCl (wX dB dI h S T) H → va_P D vwCl (wM dI g S) H → va_S (fun q : Nat => s.heap.size ≤ q) s.heap H locs → W p l e room_1 s m #[Value.ref b] below meth c H locs 10 209 (lw_Z below #[Value.ref b] s) (F0 m 426 ls [])) : W p l e room_1 s m #[Value.ref b] below meth c H locs 10 209 (lw_Z below #[Value.ref b] s) (F0 m 298 ls []) := by
  obtain ⟨hx, hb, hr, hml, hown, hts0, hX, hbl, hlocks, hgv⟩ := id C0
  have hts : ∀ w ∈ lw_all, w.before #[Value.ref b] s = true := fun w h => hts0 w (lw_all_tbl h)
  have hA : ∀ q : Nat, s.heap.size ≤ q → (fun q : Nat => s.heap.size ≤ q) q := fun _ h => h
  have hbA : ¬ (fun q : Nat => s.heap.size ≤ q) b := Nat.not_le.mpr hbl
  refine lv_aload_n hx hb dL_law_298 rfl (lv_at hl 2 rfl) ?_
  refine lv_aload_n hx hb dL_law_299 rfl (lv_at hl 1 rfl) ?_
  refine lv_iload_n hx hb dL_law_300 rfl (lv_at hl 0 rfl) ?_
  refine zr_const hx hb dL_law_301 ?_
  refine zr_add hx hb dL_law_302 ?_
  refine zr_sld hx hb hX hbl hbA hS (i + 1) (by omega) (by omega) (by omega) dL_law_303 ?_
  refine wr_calli (rest := []) (As := [.int (iZ ((xs (i + 1)).toInt))]) (w := wXu dB dI h) (u0 := (S, T)) (A := (fun q : Nat => s.heap.size ≤ q)) ⟨hx, hb, hml, hown, hts⟩ (mX_endOf l D dB dI h S T hok (xs (i + 1)).toInt (Rng_to _)) (lw_V q142 q143 q144 q21 q145) hd_X1_endOf ⟨⟨rfl, rfl⟩, Nat.le_of_ble_eq_true rfl, Nat.le_of_ble_eq_true rfl⟩ hK hPX (hLD.1 _) hS hA (wX_0 ..) rfl rfl hl.1 rfl (Nat.le_of_ble_eq_true rfl) dL_law_304 ⟨Nat.le_of_ble_eq_true rfl, Nat.le_of_ble_eq_true rfl⟩ (fun r1 u1 H1 locs1 hp1 hPX1 hk1 hS1 => ?_)
  have hPM1 := keptO (hLD.2.2.1 _ _) hPM hk1
  clear hS hPX hPM hk1
  obtain ⟨S1, T1⟩ := u1
  obtain ⟨er, eS⟩ := hp1
  dsimp only at er eS
  subst er
  subst eS
  have hPX : va_P D vwCl (wX dB dI h S T1) H1 := hPX1
  have hPM : va_P D vwCl (wM dI g S) H1 := hPM1
  have hS := hS1
  refine lv_aload_n hx hb dL_law_307 rfl (lv_at hl 3 rfl) ?_
  refine lv_aload_n hx hb dL_law_308 rfl (lv_at hl 1 rfl) ?_
  refine lv_iload_n hx hb dL_law_309 rfl (lv_at hl 0 rfl) ?_
  refine zr_const hx hb dL_law_310 ?_
  refine zr_add hx hb dL_law_311 ?_
  refine zr_sld hx hb hX hbl hbA hS (i + 1) (by omega) (by omega) (by omega) dL_law_312 ?_
  refine zr_callV (rest := [.int (iZ (xa_endOf S (xs (i + 1)).toInt))]) (As := [.int (iZ ((xs (i + 1)).toInt))]) ⟨hx, hb, hml, hown, hts⟩ (mM_endOf l D dB dI g S hok (xs (i + 1)).toInt (Rng_to _)) (lw_V q264 q265 q266 q22 q267) hd_X2_endOf ⟨⟨rfl, rfl⟩, Nat.le_of_ble_eq_true rfl, Nat.le_of_ble_eq_true rfl⟩ hK hPM (wM_0 ..) rfl rfl hl.1 rfl (Nat.le_of_ble_eq_true rfl) dL_law_313 ⟨Nat.le_of_ble_eq_true rfl, Nat.le_of_ble_eq_true rfl⟩ ?_
  refine lv_icmp_eq (tgt := 426) hx hb dL_law_316 (by decide) (fun c1 => ?_) (fun c1 => absurd (by rw [th_endOf hok (xs (i + 1)).toInt]) c1)
  exact next S T1 H1 locs1 hok hPX hPM hS
set_option maxHeartbeats 4000000 in
set_option maxRecDepth 100000 in
/-- case 9: lengthOf -/
theorem lc_9 {p : Program} {e : Env} {s : State} {m : MethodId} {below : List Frame} {meth : Method} {c : Code} (l : Launch) {b L : Nat} {xs : Nat → Int32} {D : va_G} {dB dI : ClassId} {h g : Nat → Nat} {i : Nat} {S : Par} {T : Pri} {H : Heap} {locs : List Loc} {ls : Array Slot} (hL : L ≤ 258) (C0 : lw_At p s m meth c b L xs) (hK : va_K D vwCl (tyA dB dI) s) (hLD : LD (fun q : Nat => s.heap.size ≤ q) dB dI h g) (hi : i + 4 ≤ L) (hok : pb_Ok S) (hPX : va_P D vwCl (wX dB dI h S T) H) (hPM : va_P D vwCl (wM dI g S) H) (hS : va_S (fun q : Nat => s.heap.size ≤ q) s.heap H locs) (hl : lv_has ls 4 [(3, .int (iZ ((i : Nat) : Int))), (0, .ref b), (1, .ref (h 0)), (2, .ref (g 0))])
    (next : ∀ (S : Par) (T : Pri) (H : Heap) (locs : List Loc), pb_Ok S → va_P D vwCl (wX dB dI h S T) H → va_P D vwCl (wM dI g S) H → va_S (fun q : Nat => s.heap.size ≤ q) s.heap H locs → W p l e room_1 s m #[Value.ref b] below meth c H locs 10 209 (lw_Z below #[Value.ref b] s) (F0 m 426 ls [])) : W p l e room_1 s m #[Value.ref b] below meth c H locs 10 209 (lw_Z below #[Value.ref b] s) (F0 m 321 ls []) := by
  obtain ⟨hx, hb, hr, hml, hown, hts0, hX, hbl, hlocks, hgv⟩ := id C0
  have hts : ∀ w ∈ lw_all, w.before #[Value.ref b] s = true := fun w h => hts0 w (lw_all_tbl h)
  have hA : ∀ q : Nat, s.heap.size ≤ q → (fun q : Nat => s.heap.size ≤ q) q := fun _ h => h
  have hbA : ¬ (fun q : Nat => s.heap.size ≤ q) b := Nat.not_le.mpr hbl
  refine lv_aload_n hx hb dL_law_321 rfl (lv_at hl 2 rfl) ?_
  refine lv_aload_n hx hb dL_law_322 rfl (lv_at hl 1 rfl) ?_
  refine lv_iload_n hx hb dL_law_323 rfl (lv_at hl 0 rfl) ?_
  refine zr_const hx hb dL_law_324 ?_
  refine zr_add hx hb dL_law_325 ?_
  refine zr_sld hx hb hX hbl hbA hS (i + 1) (by omega) (by omega) (by omega) dL_law_326 ?_
  refine wr_calli (rest := []) (As := [.int (iZ ((xs (i + 1)).toInt))]) (w := wXu dB dI h) (u0 := (S, T)) (A := (fun q : Nat => s.heap.size ≤ q)) ⟨hx, hb, hml, hown, hts⟩ (mX_lengthOf l D dB dI h S T hok (xs (i + 1)).toInt (Rng_to _)) (lw_V q146 q147 q148 q21 q149) hd_X1_lengthOf ⟨⟨rfl, rfl⟩, Nat.le_of_ble_eq_true rfl, Nat.le_of_ble_eq_true rfl⟩ hK hPX (hLD.1 _) hS hA (wX_0 ..) rfl rfl hl.1 rfl (Nat.le_of_ble_eq_true rfl) dL_law_327 ⟨Nat.le_of_ble_eq_true rfl, Nat.le_of_ble_eq_true rfl⟩ (fun r1 u1 H1 locs1 hp1 hPX1 hk1 hS1 => ?_)
  have hPM1 := keptO (hLD.2.2.1 _ _) hPM hk1
  clear hS hPX hPM hk1
  obtain ⟨S1, T1⟩ := u1
  obtain ⟨er, eS⟩ := hp1
  dsimp only at er eS
  subst er
  subst eS
  have hPX : va_P D vwCl (wX dB dI h S T1) H1 := hPX1
  have hPM : va_P D vwCl (wM dI g S) H1 := hPM1
  have hS := hS1
  refine lv_aload_n hx hb dL_law_330 rfl (lv_at hl 3 rfl) ?_
  refine lv_aload_n hx hb dL_law_331 rfl (lv_at hl 1 rfl) ?_
  refine lv_iload_n hx hb dL_law_332 rfl (lv_at hl 0 rfl) ?_
  refine zr_const hx hb dL_law_333 ?_
  refine zr_add hx hb dL_law_334 ?_
  refine zr_sld hx hb hX hbl hbA hS (i + 1) (by omega) (by omega) (by omega) dL_law_335 ?_
  refine zr_callV (rest := [.int (iZ (xa_lengthOf S (xs (i + 1)).toInt))]) (As := [.int (iZ ((xs (i + 1)).toInt))]) ⟨hx, hb, hml, hown, hts⟩ (mM_lengthOf l D dB dI g S hok (xs (i + 1)).toInt (Rng_to _)) (lw_V q268 q269 q270 q22 q271) hd_X2_lengthOf ⟨⟨rfl, rfl⟩, Nat.le_of_ble_eq_true rfl, Nat.le_of_ble_eq_true rfl⟩ hK hPM (wM_0 ..) rfl rfl hl.1 rfl (Nat.le_of_ble_eq_true rfl) dL_law_336 ⟨Nat.le_of_ble_eq_true rfl, Nat.le_of_ble_eq_true rfl⟩ ?_
  refine lv_icmp_eq (tgt := 426) hx hb dL_law_339 (by decide) (fun c1 => ?_) (fun c1 => absurd (by rw [th_lengthOf hok (xs (i + 1)).toInt]) c1)
  exact next S T1 H1 locs1 hok hPX hPM hS
set_option maxHeartbeats 4000000 in
set_option maxRecDepth 100000 in
/-- case 10: costWith -/
theorem lc_10 {p : Program} {e : Env} {s : State} {m : MethodId} {below : List Frame} {meth : Method} {c : Code} (l : Launch) {b L : Nat} {xs : Nat → Int32} {D : va_G} {dB dI : ClassId} {h g : Nat → Nat} {i : Nat} {S : Par} {T : Pri} {H : Heap} {locs : List Loc} {ls : Array Slot} (hL : L ≤ 258) (C0 : lw_At p s m meth c b L xs) (hK : va_K D vwCl (tyA dB dI) s) (hLD : LD (fun q : Nat => s.heap.size ≤ q) dB dI h g) (hi : i + 4 ≤ L) (hok : pb_Ok S) (hPX : va_P D vwCl (wX dB dI h S T) H) (hPM : va_P D vwCl (wM dI g S) H) (hS : va_S (fun q : Nat => s.heap.size ≤ q) s.heap H locs) (hl : lv_has ls 4 [(3, .int (iZ ((i : Nat) : Int))), (0, .ref b), (1, .ref (h 0)), (2, .ref (g 0))])
    (next : ∀ (S : Par) (T : Pri) (H : Heap) (locs : List Loc), pb_Ok S → va_P D vwCl (wX dB dI h S T) H → va_P D vwCl (wM dI g S) H → va_S (fun q : Nat => s.heap.size ≤ q) s.heap H locs → W p l e room_1 s m #[Value.ref b] below meth c H locs 10 209 (lw_Z below #[Value.ref b] s) (F0 m 426 ls [])) : W p l e room_1 s m #[Value.ref b] below meth c H locs 10 209 (lw_Z below #[Value.ref b] s) (F0 m 344 ls []) := by
  obtain ⟨hx, hb, hr, hml, hown, hts0, hX, hbl, hlocks, hgv⟩ := id C0
  have hts : ∀ w ∈ lw_all, w.before #[Value.ref b] s = true := fun w h => hts0 w (lw_all_tbl h)
  have hA : ∀ q : Nat, s.heap.size ≤ q → (fun q : Nat => s.heap.size ≤ q) q := fun _ h => h
  have hbA : ¬ (fun q : Nat => s.heap.size ≤ q) b := Nat.not_le.mpr hbl
  refine lv_aload_n hx hb dL_law_344 rfl (lv_at hl 2 rfl) ?_
  refine lv_aload_n hx hb dL_law_345 rfl (lv_at hl 1 rfl) ?_
  refine lv_iload_n hx hb dL_law_346 rfl (lv_at hl 0 rfl) ?_
  refine zr_const hx hb dL_law_347 ?_
  refine zr_add hx hb dL_law_348 ?_
  refine zr_sld hx hb hX hbl hbA hS (i + 1) (by omega) (by omega) (by omega) dL_law_349 ?_
  refine wr_calli (rest := []) (As := [.int (iZ ((xs (i + 1)).toInt))]) (w := wXu dB dI h) (u0 := (S, T)) (A := (fun q : Nat => s.heap.size ≤ q)) ⟨hx, hb, hml, hown, hts⟩ (mX_costWith l D dB dI h S T hok (xs (i + 1)).toInt (Rng_to _)) (lw_V q150 q151 q152 q21 q153) hd_X1_costWith ⟨⟨rfl, rfl⟩, Nat.le_of_ble_eq_true rfl, Nat.le_of_ble_eq_true rfl⟩ hK hPX (hLD.1 _) hS hA (wX_0 ..) rfl rfl hl.1 rfl (Nat.le_of_ble_eq_true rfl) dL_law_350 ⟨Nat.le_of_ble_eq_true rfl, Nat.le_of_ble_eq_true rfl⟩ (fun r1 u1 H1 locs1 hp1 hPX1 hk1 hS1 => ?_)
  have hPM1 := keptO (hLD.2.2.1 _ _) hPM hk1
  clear hS hPX hPM hk1
  obtain ⟨S1, T1⟩ := u1
  obtain ⟨er, eS⟩ := hp1
  dsimp only at er eS
  subst er
  subst eS
  have hPX : va_P D vwCl (wX dB dI h S T1) H1 := hPX1
  have hPM : va_P D vwCl (wM dI g S) H1 := hPM1
  have hS := hS1
  refine lv_aload_n hx hb dL_law_353 rfl (lv_at hl 3 rfl) ?_
  refine lv_aload_n hx hb dL_law_354 rfl (lv_at hl 1 rfl) ?_
  refine lv_iload_n hx hb dL_law_355 rfl (lv_at hl 0 rfl) ?_
  refine zr_const hx hb dL_law_356 ?_
  refine zr_add hx hb dL_law_357 ?_
  refine zr_sld hx hb hX hbl hbA hS (i + 1) (by omega) (by omega) (by omega) dL_law_358 ?_
  refine zr_callV (rest := [.int (iZ (xa_costWith S (xs (i + 1)).toInt))]) (As := [.int (iZ ((xs (i + 1)).toInt))]) ⟨hx, hb, hml, hown, hts⟩ (mM_costWith l D dB dI g S hok (xs (i + 1)).toInt (Rng_to _)) (lw_V q273 q274 q275 q22 q276) hd_X2_costWith ⟨⟨rfl, rfl⟩, Nat.le_of_ble_eq_true rfl, Nat.le_of_ble_eq_true rfl⟩ hK hPM (wM_0 ..) rfl rfl hl.1 rfl (Nat.le_of_ble_eq_true rfl) dL_law_359 ⟨Nat.le_of_ble_eq_true rfl, Nat.le_of_ble_eq_true rfl⟩ ?_
  refine lv_icmp_eq (tgt := 426) hx hb dL_law_362 (by decide) (fun c1 => ?_) (fun c1 => absurd (by rw [th_costWith hok (xs (i + 1)).toInt]) c1)
  exact next S T1 H1 locs1 hok hPX hPM hS
set_option maxHeartbeats 4000000 in
set_option maxRecDepth 100000 in
/-- case 11: costBreaking -/
theorem lc_11 {p : Program} {e : Env} {s : State} {m : MethodId} {below : List Frame} {meth : Method} {c : Code} (l : Launch) {b L : Nat} {xs : Nat → Int32} {D : va_G} {dB dI : ClassId} {h g : Nat → Nat} {i : Nat} {S : Par} {T : Pri} {H : Heap} {locs : List Loc} {ls : Array Slot} (hL : L ≤ 258) (C0 : lw_At p s m meth c b L xs) (hK : va_K D vwCl (tyA dB dI) s) (hLD : LD (fun q : Nat => s.heap.size ≤ q) dB dI h g) (hi : i + 4 ≤ L) (hok : pb_Ok S) (hPX : va_P D vwCl (wX dB dI h S T) H) (hPM : va_P D vwCl (wM dI g S) H) (hS : va_S (fun q : Nat => s.heap.size ≤ q) s.heap H locs) (hl : lv_has ls 4 [(3, .int (iZ ((i : Nat) : Int))), (0, .ref b), (1, .ref (h 0)), (2, .ref (g 0))])
    (next : ∀ (S : Par) (T : Pri) (H : Heap) (locs : List Loc), pb_Ok S → va_P D vwCl (wX dB dI h S T) H → va_P D vwCl (wM dI g S) H → va_S (fun q : Nat => s.heap.size ≤ q) s.heap H locs → W p l e room_1 s m #[Value.ref b] below meth c H locs 10 209 (lw_Z below #[Value.ref b] s) (F0 m 426 ls [])) : W p l e room_1 s m #[Value.ref b] below meth c H locs 10 209 (lw_Z below #[Value.ref b] s) (F0 m 367 ls []) := by
  obtain ⟨hx, hb, hr, hml, hown, hts0, hX, hbl, hlocks, hgv⟩ := id C0
  have hts : ∀ w ∈ lw_all, w.before #[Value.ref b] s = true := fun w h => hts0 w (lw_all_tbl h)
  have hA : ∀ q : Nat, s.heap.size ≤ q → (fun q : Nat => s.heap.size ≤ q) q := fun _ h => h
  have hbA : ¬ (fun q : Nat => s.heap.size ≤ q) b := Nat.not_le.mpr hbl
  refine lv_aload_n hx hb dL_law_367 rfl (lv_at hl 2 rfl) ?_
  refine lv_aload_n hx hb dL_law_368 rfl (lv_at hl 1 rfl) ?_
  refine lv_iload_n hx hb dL_law_369 rfl (lv_at hl 0 rfl) ?_
  refine zr_const hx hb dL_law_370 ?_
  refine zr_add hx hb dL_law_371 ?_
  refine zr_sld hx hb hX hbl hbA hS (i + 1) (by omega) (by omega) (by omega) dL_law_372 ?_
  refine wr_calli (rest := []) (As := [.int (iZ ((xs (i + 1)).toInt))]) (w := wXu dB dI h) (u0 := (S, T)) (A := (fun q : Nat => s.heap.size ≤ q)) ⟨hx, hb, hml, hown, hts⟩ (mX_costBreaking l D dB dI h S T hok (xs (i + 1)).toInt (Rng_to _)) (lw_V q154 q155 q156 q21 q157) hd_X1_costBreaking ⟨⟨rfl, rfl⟩, Nat.le_of_ble_eq_true rfl, Nat.le_of_ble_eq_true rfl⟩ hK hPX (hLD.1 _) hS hA (wX_0 ..) rfl rfl hl.1 rfl (Nat.le_of_ble_eq_true rfl) dL_law_373 ⟨Nat.le_of_ble_eq_true rfl, Nat.le_of_ble_eq_true rfl⟩ (fun r1 u1 H1 locs1 hp1 hPX1 hk1 hS1 => ?_)
  have hPM1 := keptO (hLD.2.2.1 _ _) hPM hk1
  clear hS hPX hPM hk1
  obtain ⟨S1, T1⟩ := u1
  obtain ⟨er, eS⟩ := hp1
  dsimp only at er eS
  subst er
  subst eS
  have hPX : va_P D vwCl (wX dB dI h S T1) H1 := hPX1
  have hPM : va_P D vwCl (wM dI g S) H1 := hPM1
  have hS := hS1
  refine lv_aload_n hx hb dL_law_376 rfl (lv_at hl 3 rfl) ?_
  refine lv_aload_n hx hb dL_law_377 rfl (lv_at hl 1 rfl) ?_
  refine lv_iload_n hx hb dL_law_378 rfl (lv_at hl 0 rfl) ?_
  refine zr_const hx hb dL_law_379 ?_
  refine zr_add hx hb dL_law_380 ?_
  refine zr_sld hx hb hX hbl hbA hS (i + 1) (by omega) (by omega) (by omega) dL_law_381 ?_
  refine zr_callV (rest := [.int (iZ (xa_costBreaking S (xs (i + 1)).toInt))]) (As := [.int (iZ ((xs (i + 1)).toInt))]) ⟨hx, hb, hml, hown, hts⟩ (mM_costBreaking l D dB dI g S hok (xs (i + 1)).toInt (Rng_to _)) (lw_V q277 q278 q279 q22 q280) hd_X2_costBreaking ⟨⟨rfl, rfl⟩, Nat.le_of_ble_eq_true rfl, Nat.le_of_ble_eq_true rfl⟩ hK hPM (wM_0 ..) rfl rfl hl.1 rfl (Nat.le_of_ble_eq_true rfl) dL_law_382 ⟨Nat.le_of_ble_eq_true rfl, Nat.le_of_ble_eq_true rfl⟩ ?_
  refine lv_icmp_eq (tgt := 426) hx hb dL_law_385 (by decide) (fun c1 => ?_) (fun c1 => absurd (by rw [th_costBreaking hok (xs (i + 1)).toInt]) c1)
  exact next S T1 H1 locs1 hok hPX hPM hS
set_option maxHeartbeats 4000000 in
set_option maxRecDepth 100000 in
/-- case 12: costKeeping -/
theorem lc_12 {p : Program} {e : Env} {s : State} {m : MethodId} {below : List Frame} {meth : Method} {c : Code} (l : Launch) {b L : Nat} {xs : Nat → Int32} {D : va_G} {dB dI : ClassId} {h g : Nat → Nat} {i : Nat} {S : Par} {T : Pri} {H : Heap} {locs : List Loc} {ls : Array Slot} (hL : L ≤ 258) (C0 : lw_At p s m meth c b L xs) (hK : va_K D vwCl (tyA dB dI) s) (hLD : LD (fun q : Nat => s.heap.size ≤ q) dB dI h g) (hi : i + 4 ≤ L) (hok : pb_Ok S) (hPX : va_P D vwCl (wX dB dI h S T) H) (hPM : va_P D vwCl (wM dI g S) H) (hS : va_S (fun q : Nat => s.heap.size ≤ q) s.heap H locs) (hl : lv_has ls 4 [(3, .int (iZ ((i : Nat) : Int))), (0, .ref b), (1, .ref (h 0)), (2, .ref (g 0))])
    (next : ∀ (S : Par) (T : Pri) (H : Heap) (locs : List Loc), pb_Ok S → va_P D vwCl (wX dB dI h S T) H → va_P D vwCl (wM dI g S) H → va_S (fun q : Nat => s.heap.size ≤ q) s.heap H locs → W p l e room_1 s m #[Value.ref b] below meth c H locs 10 209 (lw_Z below #[Value.ref b] s) (F0 m 426 ls [])) : W p l e room_1 s m #[Value.ref b] below meth c H locs 10 209 (lw_Z below #[Value.ref b] s) (F0 m 390 ls []) := by
  obtain ⟨hx, hb, hr, hml, hown, hts0, hX, hbl, hlocks, hgv⟩ := id C0
  have hts : ∀ w ∈ lw_all, w.before #[Value.ref b] s = true := fun w h => hts0 w (lw_all_tbl h)
  have hA : ∀ q : Nat, s.heap.size ≤ q → (fun q : Nat => s.heap.size ≤ q) q := fun _ h => h
  have hbA : ¬ (fun q : Nat => s.heap.size ≤ q) b := Nat.not_le.mpr hbl
  refine lv_aload_n hx hb dL_law_390 rfl (lv_at hl 2 rfl) ?_
  refine lv_aload_n hx hb dL_law_391 rfl (lv_at hl 1 rfl) ?_
  refine lv_iload_n hx hb dL_law_392 rfl (lv_at hl 0 rfl) ?_
  refine zr_const hx hb dL_law_393 ?_
  refine zr_add hx hb dL_law_394 ?_
  refine zr_sld hx hb hX hbl hbA hS (i + 1) (by omega) (by omega) (by omega) dL_law_395 ?_
  refine wr_calli (rest := []) (As := [.int (iZ ((xs (i + 1)).toInt))]) (w := wXu dB dI h) (u0 := (S, T)) (A := (fun q : Nat => s.heap.size ≤ q)) ⟨hx, hb, hml, hown, hts⟩ (mX_costKeeping l D dB dI h S T hok (xs (i + 1)).toInt (Rng_to _)) (lw_V q162 q163 q164 q21 q165) hd_X1_costKeeping ⟨⟨rfl, rfl⟩, Nat.le_of_ble_eq_true rfl, Nat.le_of_ble_eq_true rfl⟩ hK hPX (hLD.1 _) hS hA (wX_0 ..) rfl rfl hl.1 rfl (Nat.le_of_ble_eq_true rfl) dL_law_396 ⟨Nat.le_of_ble_eq_true rfl, Nat.le_of_ble_eq_true rfl⟩ (fun r1 u1 H1 locs1 hp1 hPX1 hk1 hS1 => ?_)
  have hPM1 := keptO (hLD.2.2.1 _ _) hPM hk1
  clear hS hPX hPM hk1
  obtain ⟨S1, T1⟩ := u1
  obtain ⟨er, eS⟩ := hp1
  dsimp only at er eS
  subst er
  subst eS
  have hPX : va_P D vwCl (wX dB dI h S T1) H1 := hPX1
  have hPM : va_P D vwCl (wM dI g S) H1 := hPM1
  have hS := hS1
  refine lv_aload_n hx hb dL_law_399 rfl (lv_at hl 3 rfl) ?_
  refine lv_aload_n hx hb dL_law_400 rfl (lv_at hl 1 rfl) ?_
  refine lv_iload_n hx hb dL_law_401 rfl (lv_at hl 0 rfl) ?_
  refine zr_const hx hb dL_law_402 ?_
  refine zr_add hx hb dL_law_403 ?_
  refine zr_sld hx hb hX hbl hbA hS (i + 1) (by omega) (by omega) (by omega) dL_law_404 ?_
  refine zr_callV (rest := [.int (iZ (xa_costKeeping S (xs (i + 1)).toInt))]) (As := [.int (iZ ((xs (i + 1)).toInt))]) ⟨hx, hb, hml, hown, hts⟩ (mM_costKeeping l D dB dI g S hok (xs (i + 1)).toInt (Rng_to _)) (lw_V q281 q282 q283 q22 q284) hd_X2_costKeeping ⟨⟨rfl, rfl⟩, Nat.le_of_ble_eq_true rfl, Nat.le_of_ble_eq_true rfl⟩ hK hPM (wM_0 ..) rfl rfl hl.1 rfl (Nat.le_of_ble_eq_true rfl) dL_law_405 ⟨Nat.le_of_ble_eq_true rfl, Nat.le_of_ble_eq_true rfl⟩ ?_
  refine lv_icmp_eq (tgt := 426) hx hb dL_law_408 (by decide) (fun c1 => ?_) (fun c1 => absurd (by rw [th_costKeeping hok (xs (i + 1)).toInt]) c1)
  exact next S T1 H1 locs1 hok hPX hPM hS
set_option maxHeartbeats 4000000 in
set_option maxRecDepth 100000 in
/-- case 13: choices -/
theorem lc_13 {p : Program} {e : Env} {s : State} {m : MethodId} {below : List Frame} {meth : Method} {c : Code} (l : Launch) {b L : Nat} {xs : Nat → Int32} {D : va_G} {dB dI : ClassId} {h g : Nat → Nat} {i : Nat} {S : Par} {T : Pri} {H : Heap} {locs : List Loc} {ls : Array Slot} (hL : L ≤ 258) (C0 : lw_At p s m meth c b L xs) (hK : va_K D vwCl (tyA dB dI) s) (hLD : LD (fun q : Nat => s.heap.size ≤ q) dB dI h g) (hi : i + 4 ≤ L) (hok : pb_Ok S) (hPX : va_P D vwCl (wX dB dI h S T) H) (hPM : va_P D vwCl (wM dI g S) H) (hS : va_S (fun q : Nat => s.heap.size ≤ q) s.heap H locs) (hl : lv_has ls 4 [(3, .int (iZ ((i : Nat) : Int))), (0, .ref b), (1, .ref (h 0)), (2, .ref (g 0))])
    (next : ∀ (S : Par) (T : Pri) (H : Heap) (locs : List Loc), pb_Ok S → va_P D vwCl (wX dB dI h S T) H → va_P D vwCl (wM dI g S) H → va_S (fun q : Nat => s.heap.size ≤ q) s.heap H locs → W p l e room_1 s m #[Value.ref b] below meth c H locs 10 209 (lw_Z below #[Value.ref b] s) (F0 m 426 ls [])) : W p l e room_1 s m #[Value.ref b] below meth c H locs 10 209 (lw_Z below #[Value.ref b] s) (F0 m 413 ls []) := by
  obtain ⟨hx, hb, hr, hml, hown, hts0, hX, hbl, hlocks, hgv⟩ := id C0
  have hts : ∀ w ∈ lw_all, w.before #[Value.ref b] s = true := fun w h => hts0 w (lw_all_tbl h)
  have hA : ∀ q : Nat, s.heap.size ≤ q → (fun q : Nat => s.heap.size ≤ q) q := fun _ h => h
  have hbA : ¬ (fun q : Nat => s.heap.size ≤ q) b := Nat.not_le.mpr hbl
  refine lv_aload_n hx hb dL_law_413 rfl (lv_at hl 2 rfl) ?_
  refine wr_calli (rest := []) (As := []) (w := wXu dB dI h) (u0 := (S, T)) (A := (fun q : Nat => s.heap.size ≤ q)) ⟨hx, hb, hml, hown, hts⟩ (mX_choices l D dB dI h S T hok) (lw_V q166 q167 q168 q21 q169) hd_X1_choices ⟨⟨rfl, rfl⟩, Nat.le_of_ble_eq_true rfl, Nat.le_of_ble_eq_true rfl⟩ hK hPX (hLD.1 _) hS hA (wX_0 ..) rfl rfl hl.1 rfl (Nat.le_of_ble_eq_true rfl) dL_law_414 ⟨Nat.le_of_ble_eq_true rfl, Nat.le_of_ble_eq_true rfl⟩ (fun r1 u1 H1 locs1 hp1 hPX1 hk1 hS1 => ?_)
  have hPM1 := keptO (hLD.2.2.1 _ _) hPM hk1
  clear hS hPX hPM hk1
  obtain ⟨S1, T1⟩ := u1
  obtain ⟨er, eS⟩ := hp1
  dsimp only at er eS
  subst er
  subst eS
  have hPX : va_P D vwCl (wX dB dI h S T1) H1 := hPX1
  have hPM : va_P D vwCl (wM dI g S) H1 := hPM1
  have hS := hS1
  refine lv_aload_n hx hb dL_law_417 rfl (lv_at hl 3 rfl) ?_
  refine zr_callV (rest := [.int (iZ (xa_choices S))]) (As := []) ⟨hx, hb, hml, hown, hts⟩ (mM_choices l D dB dI g S hok) (lw_V q285 q286 q287 q22 q288) hd_X2_choices ⟨⟨rfl, rfl⟩, Nat.le_of_ble_eq_true rfl, Nat.le_of_ble_eq_true rfl⟩ hK hPM (wM_0 ..) rfl rfl hl.1 rfl (Nat.le_of_ble_eq_true rfl) dL_law_418 ⟨Nat.le_of_ble_eq_true rfl, Nat.le_of_ble_eq_true rfl⟩ ?_
  refine lv_icmp_eq (tgt := 426) hx hb dL_law_421 (by decide) (fun c1 => ?_) (fun c1 => absurd (by rw [th_choices hok]) c1)
  exact next S T1 H1 locs1 hok hPX hPM hS
end
section
set_option maxHeartbeats 4000000 in
set_option maxRecDepth 100000 in
/-- the loop -/
theorem law_loop {p : Program} {e : Env} {s : State} {m : MethodId} {below : List Frame} {meth : Method} {c : Code} (l : Launch) {b L : Nat} {xs : Nat → Int32} {D : va_G} {dB dI : ClassId} {h g : Nat → Nat} {S : Par} {T : Pri} {H : Heap} {locs : List Loc} {ls : Array Slot} (hL : L ≤ 258) (C0 : lw_At p s m meth c b L xs) (hK : va_K D vwCl (tyA dB dI) s) (hLD : LD (fun q : Nat => s.heap.size ≤ q) dB dI h g) (hok : pb_Ok S) (hPX : va_P D vwCl (wX dB dI h S T) H) (hPM : va_P D vwCl (wM dI g S) H) (hS : va_S (fun q : Nat => s.heap.size ≤ q) s.heap H locs) (hl : lv_has ls 4 [(3, .int (iZ ((2 : Nat) : Int))), (0, .ref b), (1, .ref (h 0)), (2, .ref (g 0))]) : W p l e room_1 s m #[Value.ref b] below meth c H locs 10 209 (lw_Z below #[Value.ref b] s) (F0 m 38 ls []) := by
  obtain ⟨hx, hb, hr, hml, hown, hts0, hX, hbl, hlocks, hgv⟩ := id C0
  have hbA : ¬ (fun q : Nat => s.heap.size ≤ q) b := Nat.not_le.mpr hbl
  refine zr_loopH (pc := 38) (nL := 4) (α := Par × Pri) 65 (fun n _ => [(3, .int (iZ ((2 + 4 * n : Nat) : Int))), (0, .ref b), (1, .ref (h 0)), (2, .ref (g 0))]) (fun n a H locs => pb_Ok a.1 ∧ va_P D vwCl (wX dB dI h a.1 a.2) H ∧ va_P D vwCl (wM dI g a.1) H ∧ va_S (fun q : Nat => s.heap.size ≤ q) s.heap H locs) ?_ 0 (S, T) H locs ls (Nat.zero_le _) ⟨hok, hPX, hPM, hS⟩ hl
  clear hok hPX hPM hS hl
  rintro n ⟨S, T⟩ H locs ls hn ⟨hok, hPX, hPM, hS⟩ hl ih
  have hok : pb_Ok S := hok
  have hPX : va_P D vwCl (wX dB dI h S T) H := hPX
  have hPM : va_P D vwCl (wM dI g S) H := hPM
  have hl : lv_has ls 4 [(3, .int (iZ ((2 + 4 * n : Nat) : Int))), (0, .ref b), (1, .ref (h 0)), (2, .ref (g 0))] := hl
  refine lv_iload_n hx hb dL_law_38 rfl (lv_at hl 0 rfl) ?_
  refine lv_aload_n hx hb dL_law_39 rfl (lv_at hl 1 rfl) ?_
  refine zr_slen hx hb hX hbl hbA hS dL_law_40 ?_
  refine zr_const hx hb dL_law_41 ?_
  refine zr_sub hx hb dL_law_42 ?_
  refine zr_icmp_gt (tgt := 432) hx hb dL_law_43 (by decide) (by unfold Rng; omega) (fun c_43 => ?_) (fun c_43 => ?_)
  · refine lv_iconst (v := 1) hx hb dL_law_432 (by decide) ?_
    refine va_forget (fun q hq => hS.2.2 q hq) ?_
    refine W.widen (k := 600000) (n := 7290000) (by omega) (by omega) ?_
    exact lw_ret hx hb hr hlocks dL_law_433
  · have hi : 2 + 4 * n + 4 ≤ L := by omega
    have next : ∀ (S : Par) (T : Pri) (H : Heap) (locs : List Loc), pb_Ok S → va_P D vwCl (wX dB dI h S T) H → va_P D vwCl (wM dI g S) H → va_S (fun q : Nat => s.heap.size ≤ q) s.heap H locs → W p l e room_1 s m #[Value.ref b] below meth c H locs 10 209 (lw_Z below #[Value.ref b] s) (F0 m 426 ls []) := by
      intro S T H locs hok hPX hPM hS
      refine zr_inc (lv' := [(3, .int (iZ (((2 + 4 * n : Nat) : Int) + 4))), (0, .ref b), (1, .ref (h 0)), (2, .ref (g 0))]) hx hb dL_law_426 hl 0 rfl (by decide) rfl (fun ls hl => ?_)
      refine lv_goto (tgt := 38) hx hb dL_law_429 (by decide) ?_
      exact ih (S, T) H locs ls (by omega) ⟨hok, hPX, hPM, hS⟩ (by
        show lv_has ls 4 [(3, .int (iZ ((2 + 4 * (n + 1) : Nat) : Int))), (0, .ref b), (1, .ref (h 0)), (2, .ref (g 0))]
        rw [show ((2 + 4 * (n + 1) : Nat) : Int) = ((2 + 4 * n : Nat) : Int) + 4 by omega]
        exact hl)
    refine lv_aload_n hx hb dL_law_46 rfl (lv_at hl 1 rfl) ?_
    refine lv_iload_n hx hb dL_law_47 rfl (lv_at hl 0 rfl) ?_
    refine zr_sld hx hb hX hbl hbA hS (2 + 4 * n) rfl (by omega) (by omega) dL_law_48 ?_
    refine zr_bipush hx hb dL_law_49 (by decide) ?_
    refine lv_iand hx hb dL_law_51 ?_
    obtain ⟨k, hk, ek⟩ := and15 (iZ (xs (2 + 4 * n)).toInt)
    refine zr_top (y := iZ ((k : Nat) : Int)) ek ?_
    clear ek
    rcases (show k = 0 ∨ k = 1 ∨ k = 2 ∨ k = 3 ∨ k = 4 ∨ k = 5 ∨ k = 6 ∨ k = 7 ∨ k = 8 ∨ k = 9 ∨ k = 10 ∨ k = 11 ∨ k = 12 ∨ k = 13 ∨ k = 14 ∨ k = 15 by omega) with rfl | rfl | rfl | rfl | rfl | rfl | rfl | rfl | rfl | rfl | rfl | rfl | rfl | rfl | rfl | rfl
    · refine lv_tableIn (off := 72) (tgt := 124) hx hb dL_law_52 (by decide +kernel) (by decide +kernel) (by decide +kernel) (by decide) ?_
      exact lc_0 l hL C0 hK hLD hi hok hPX hPM hS hl next
    · refine lv_tableIn (off := 105) (tgt := 157) hx hb dL_law_52 (by decide +kernel) (by decide +kernel) (by decide +kernel) (by decide) ?_
      exact lc_1 l hL C0 hK hLD hi hok hPX hPM hS hl next
    · refine lv_tableIn (off := 118) (tgt := 170) hx hb dL_law_52 (by decide +kernel) (by decide +kernel) (by decide +kernel) (by decide) ?_
      exact lc_2 l hL C0 hK hLD hi hok hPX hPM hS hl next
    · refine lv_tableIn (off := 161) (tgt := 213) hx hb dL_law_52 (by decide +kernel) (by decide +kernel) (by decide +kernel) (by decide) ?_
      exact lc_3 l hL C0 hK hLD hi hok hPX hPM hS hl next
    · refine lv_tableIn (off := 184) (tgt := 236) hx hb dL_law_52 (by decide +kernel) (by decide +kernel) (by decide +kernel) (by decide) ?_
      exact lc_4 l hL C0 hK hLD hi hok hPX hPM hS hl next
    · refine lv_tableIn (off := 197) (tgt := 249) hx hb dL_law_52 (by decide +kernel) (by decide +kernel) (by decide +kernel) (by decide) ?_
      exact lc_5 l hL C0 hK hLD hi hok hPX hPM hS hl next
    · refine lv_tableIn (off := 210) (tgt := 262) hx hb dL_law_52 (by decide +kernel) (by decide +kernel) (by decide +kernel) (by decide) ?_
      exact lc_6 l hL C0 hK hLD hi hok hPX hPM hS hl next
    · refine lv_tableIn (off := 223) (tgt := 275) hx hb dL_law_52 (by decide +kernel) (by decide +kernel) (by decide +kernel) (by decide) ?_
      exact lc_7 l hL C0 hK hLD hi hok hPX hPM hS hl next
    · refine lv_tableIn (off := 246) (tgt := 298) hx hb dL_law_52 (by decide +kernel) (by decide +kernel) (by decide +kernel) (by decide) ?_
      exact lc_8 l hL C0 hK hLD hi hok hPX hPM hS hl next
    · refine lv_tableIn (off := 269) (tgt := 321) hx hb dL_law_52 (by decide +kernel) (by decide +kernel) (by decide +kernel) (by decide) ?_
      exact lc_9 l hL C0 hK hLD hi hok hPX hPM hS hl next
    · refine lv_tableIn (off := 292) (tgt := 344) hx hb dL_law_52 (by decide +kernel) (by decide +kernel) (by decide +kernel) (by decide) ?_
      exact lc_10 l hL C0 hK hLD hi hok hPX hPM hS hl next
    · refine lv_tableIn (off := 315) (tgt := 367) hx hb dL_law_52 (by decide +kernel) (by decide +kernel) (by decide +kernel) (by decide) ?_
      exact lc_11 l hL C0 hK hLD hi hok hPX hPM hS hl next
    · refine lv_tableIn (off := 338) (tgt := 390) hx hb dL_law_52 (by decide +kernel) (by decide +kernel) (by decide +kernel) (by decide) ?_
      exact lc_12 l hL C0 hK hLD hi hok hPX hPM hS hl next
    · refine lv_tableIn (off := 361) (tgt := 413) hx hb dL_law_52 (by decide +kernel) (by decide +kernel) (by decide +kernel) (by decide) ?_
      exact lc_13 l hL C0 hK hLD hi hok hPX hPM hS hl next
    · refine lv_tableOut (tgt := 426) hx hb dL_law_52 (Or.inr (by decide +kernel)) (by decide) ?_
      exact next S T H locs hok hPX hPM hS
    · refine lv_tableOut (tgt := 426) hx hb dL_law_52 (Or.inr (by decide +kernel)) (by decide) ?_
      exact next S T H locs hok hPX hPM hS
set_option maxHeartbeats 4000000 in
set_option maxRecDepth 100000 in
theorem lw_cell {p : Program} {e : Env} {s : State} {m : MethodId} {below : List Frame} {meth : Method} {c : Code} (l : Launch) {b L : Nat} {xs : Nat → Int32} {H : Heap} {locs : List Loc} {cells slots : Nat} {Q : State → Prop} {pc : Nat} {ls : Array Slot} {rest : List Value} (hL : L ≤ 258) (C0 : lw_At p s m meth c b L xs) (hS : va_S (fun q : Nat => s.heap.size ≤ q) s.heap H locs) (k : Nat) (hk : k < 2) (hsz : ls.size = 4) (hrest : (rest.map fun v => v.category).sum ≤ 8) (hdg : decode code pc = .ok (.invokestatic 9, 3)) (hcs : cells ≤ room_1.cells ∧ slots ≤ room_1.slots)
    (kk : W p l e room_1 s m #[Value.ref b] below meth c H locs cells slots Q (F0 m (pc + 3) ls (.int (iZ (if k < L then (xs k).toInt else 0)) :: rest))) : W p l e room_1 s m #[Value.ref b] below meth c H locs cells slots Q (F0 m pc ls (.int (iZ ((k : Nat) : Int)) :: .ref b :: rest)) := by
  obtain ⟨hx, hb, hr, hml, hown, hts0, hX, hbl, hlocks, hgv⟩ := id C0
  have hts : ∀ w ∈ lw_all, w.before #[Value.ref b] s = true := fun w h => hts0 w (lw_all_tbl h)
  have hbA : ¬ (fun q : Nat => s.heap.size ≤ q) b := Nat.not_le.mpr hbl
  refine W.callR (W.runS (As := [.ref b, .int (iZ ((k : Nat) : Int))]) (rest := rest) ⟨hx, hb, hml, hown, hts⟩ (mL_cell l b L xs hL k hk) (va_cwS 2 hts (lw_S q170 q171 q20 q172) rfl rfl rfl hd_X0_cell ⟨Nat.le_of_ble_eq_true rfl, Nat.le_of_ble_eq_true rfl⟩) ⟨?_, ?_⟩ rfl rfl hsz rfl (lv_room hrest) hdg ⟨by rw [Nat.add_zero]; exact hcs.1, by rw [Nat.add_zero]; exact hcs.2⟩) kk
  · rintro a U g mk ⟨q0, q1⟩
    exact ⟨q0, va_X.moved (u := U) (U := U.calling g mk a) (Vm.Alike.refl U.vm) q1⟩
  · intro U hU hW
    exact ⟨rfl, by show va_X b L xs U U.heap; rw [hU]; exact (hX.kept (hS.2.1 b hbl hbA)).moved hW.alike⟩
theorem rng_cell {L : Nat} {xs : Nat → Int32} (k : Nat) : Rng (if k < L then (xs k).toInt else 0) := by
  split
  · exact Rng_to _
  · exact Rng_0
set_option maxHeartbeats 4000000 in
set_option maxRecDepth 100000 in
/-- THE LAW, from its entry -/
theorem whole_start {p : Program} {e : Env} {s : State} {m : MethodId} {below : List Frame} {meth : Method} {c : Code} (l : Launch) {b L : Nat} {xs : Nat → Int32} (hL : L ≤ 258) (C0 : lw_At p s m meth c b L xs) : W p l e room_1 s m #[Value.ref b] below meth c s.heap [] 0 0 (lw_Z below #[Value.ref b] s) (entryFrame m ([Value.ref b] : List Value).toArray 4) := by
  obtain ⟨hx, hb, hr, hml, hown, hts0, hX, hbl, hlocks, hgv⟩ := id C0
  have hts : ∀ w ∈ lw_all, w.before #[Value.ref b] s = true := fun w h => hts0 w (lw_all_tbl h)
  have hA : ∀ q : Nat, s.heap.size ≤ q → (fun q : Nat => s.heap.size ≤ q) q := fun _ h => h
  obtain ⟨cl0, iS0, hKn0⟩ := u_known (C := RX1) (T := TX1) (N := 10) (n := 10) hts in_X1 (hts _ q24)
  obtain ⟨cl1, iS1, hKn1⟩ := u_known (C := RX2) (T := TX2) (N := 5) (n := 5) hts in_X2 (hts _ q174)
  obtain ⟨D, hKc⟩ : ∃ D : va_G, ∀ (k : Nat) (q : vw_C), vwCl[k]? = some q → u_Kn s q.1 q.2.1 q.2.2 (D.1 k) (D.2 k) := by
    refine ⟨(fun k => if k = 0 then cl0 else cl1, fun k => if k = 0 then iS0 else iS1), ?_⟩
    intro k q hq
    match k, hq with
    | 0, hq => cases hq; exact hKn0
    | 1, hq => cases hq; exact hKn1
    | k + 2, hq => simp [vwCl] at hq
  obtain ⟨dB, hdB1, hdB2⟩ := arr_known (hts _ q62)
  obtain ⟨dI, hdI1, hdI2⟩ := arr_known (hts _ q63)
  have hK : va_K D vwCl (tyA dB dI) s := by
    refine ⟨hKc, fun k q hq => ?_⟩
    match k, hq with
    | 0, hq => cases hq; exact ⟨hdB1, hdB2⟩
    | 1, hq => cases hq; exact ⟨hdI1, hdI2⟩
    | k + 2, hq => simp [tyA] at hq
  have hS : va_S (fun q : Nat => s.heap.size ≤ q) s.heap s.heap [] := va_S.rf
  have hP : va_P D vwCl [] s.heap := fun k q h => by simp at h
  have hD : va_D (fun q : Nat => s.heap.size ≤ q) [] := ⟨fun i j p q h => by simp at h, fun k q h => by simp at h⟩
  have hl := lv_entry ([.ref b]) (n := 4) (Nat.le_of_ble_eq_true rfl)
  rw [lg_entry_eq]
  generalize (lg_sl ([.ref b]) ++ List.replicate (4 - (lg_sl ([.ref b])).length) Slot.unset).toArray = ls at hl ⊢
  have hl : lv_has ls 4 [(0, .ref b)] := hl
  have hd0 : defaultValue .int = .int (iZ 0) := by rw [iZ_0]; rfl
  refine va_new (ci := 0) (fs := [.int (iZ 0), .int (iZ 0), .null, .null, .int (iZ 0), .int (iZ 0), .null, .null, .null, .null]) (C := RX1) (T := TX1) (N := 10) hx hb hts in_X1 tyX1 tyX1_ok hown (hts _ q23) (hts _ q24) (hts _ q21) hK hP hD hS hA rfl (fun j hj => by rcases (show j = 0 ∨ j = 1 ∨ j = 2 ∨ j = 3 ∨ j = 4 ∨ j = 5 ∨ j = 6 ∨ j = 7 ∨ j = 8 ∨ j = 9 by omega) with rfl | rfl | rfl | rfl | rfl | rfl | rfl | rfl | rfl | rfl <;> first | exact hd0 | rfl) (Nat.le_of_ble_eq_true rfl) (Nat.le_of_ble_eq_true rfl) dL_law_0 (fun qx H hP hD hS => ?_)
  have hP : va_P D vwCl (wX00 qx) H := hP
  have hD : va_D (fun q : Nat => s.heap.size ≤ q) (wX00 qx) := hD
  refine W.widen (k := 1) (n := 10) (by omega) (by omega) ?_
  refine lv_dup hx hb dL_law_3 rfl ?_
  refine lv_aload_n hx hb dL_law_4 rfl (lv_at hl 0 rfl) ?_
  refine zr_const hx hb dL_law_5 ?_
  refine lw_cell l hL C0 hS 0 (by omega) hl.1 (Nat.le_of_ble_eq_true rfl) dL_law_6 ⟨Nat.le_of_ble_eq_true rfl, Nat.le_of_ble_eq_true rfl⟩ ?_
  refine lv_aload_n hx hb dL_law_9 rfl (lv_at hl 0 rfl) ?_
  refine zr_const hx hb dL_law_10 ?_
  refine lw_cell l hL C0 hS 1 (by omega) hl.1 (Nat.le_of_ble_eq_true rfl) dL_law_11 ⟨Nat.le_of_ble_eq_true rfl, Nat.le_of_ble_eq_true rfl⟩ ?_
  have hF := va_free (wc := wX00 qx) hD hS hA [0] rfl
  refine va_callv (va_runI (As := [.int (iZ (if 0 < L then (xs 0).toInt else 0)), .int (iZ (if 1 < L then (xs 1).toInt else 0))]) (rest := [.ref qx]) ⟨hx, hb, hml, hown, hts⟩ (mX_init l D dB dI qx H.size (if 0 < L then (xs 0).toInt else 0) (if 1 < L then (xs 1).toInt else 0) (rng_cell 0) (rng_cell 1)) (cwI 2 hts (lw_meth q27) rfl rfl rfl (hts _ q21) (hts _ q25) (hts _ q26) rfl hd_X1_init ⟨Nat.le_of_ble_eq_true rfl, Nat.le_of_ble_eq_true rfl⟩) ⟨fun a U g mk q => by obtain ⟨q0, q1, qP, qK, qD⟩ := q; exact ⟨q0, q1, qP, va_K.moved (u := U) (U := U.calling g mk a) (Vm.Alike.refl U.vm) qK, qD⟩, fun U hU hW => ⟨rfl, by rw [hU], by rw [hU]; exact hP, va_K.moved hW.alike hK, hD.weaken (fun _ _ _ _ => trivial)⟩⟩ rfl rfl hl.1 rfl (lv_room (Nat.le_of_ble_eq_true rfl)) dL_law_14 ⟨Nat.le_of_ble_eq_true rfl, Nat.le_of_ble_eq_true rfl⟩) hS (fun q _ h => hF q h) hF (fun h t H1 locs1 ht hvm hw hB hz1 hk1 hS1 => ?_)
  obtain ⟨hP1, hD1⟩ := hB
  rw [ht] at hP1
  have hw : h 0 = qx := hw
  subst hw
  have hPX : va_P D vwCl (wX dB dI h (pb_new (if 0 < L then (xs 0).toInt else 0) (if 1 < L then (xs 1).toInt else 0)) pb_pri0) H1 := hP1
  have hDX : va_D (fun q : Nat => s.heap.size ≤ q) (wX dB dI h (pb_new (if 0 < L then (xs 0).toInt else 0) (if 1 < L then (xs 1).toInt else 0)) pb_pri0) := hD1.weaken (fun _ _ _ z => hF _ z)
  clear hP hD hS hF hP1 hD1 hk1 hz1 hvm ht
  refine W.widen (k := 7) (n := 184) (by omega) (by omega) ?_
  refine lv_astore_n (lv' := [(1, .ref (h 0)), (0, .ref b)]) hx hb dL_law_17 rfl hl (by decide) rfl (fun ls hl => ?_)
  refine va_new (ci := 1) (fs := [.int (iZ 0), .int (iZ 0), .int (iZ 0), .null, .null]) (C := RX2) (T := TX2) (N := 5) hx hb hts in_X2 tyX2 tyX2_ok hown (hts _ q173) (hts _ q174) (hts _ q22) hK hPX hDX hS1 hA rfl (fun j hj => by rcases (show j = 0 ∨ j = 1 ∨ j = 2 ∨ j = 3 ∨ j = 4 by omega) with rfl | rfl | rfl | rfl | rfl <;> first | exact hd0 | rfl) (Nat.le_of_ble_eq_true rfl) (Nat.le_of_ble_eq_true rfl) dL_law_18 (fun qm H hP hD hS => ?_)
  refine W.widen (k := 8) (n := 189) (by omega) (by omega) ?_
  have hPc : va_P D vwCl (wM00 qm) H := hP.sub [7] rfl
  have hDc : va_D (fun q : Nat => s.heap.size ≤ q) (wM00 qm) := hD.sub [7] (by decide) rfl
  refine lv_dup hx hb dL_law_21 rfl ?_
  refine lv_aload_n hx hb dL_law_22 rfl (lv_at hl 1 rfl) ?_
  refine zr_const hx hb dL_law_23 ?_
  refine lw_cell l hL C0 hS 0 (by omega) hl.1 (Nat.le_of_ble_eq_true rfl) dL_law_24 ⟨Nat.le_of_ble_eq_true rfl, Nat.le_of_ble_eq_true rfl⟩ ?_
  refine lv_aload_n hx hb dL_law_27 rfl (lv_at hl 1 rfl) ?_
  refine zr_const hx hb dL_law_28 ?_
  refine lw_cell l hL C0 hS 1 (by omega) hl.1 (Nat.le_of_ble_eq_true rfl) dL_law_29 ⟨Nat.le_of_ble_eq_true rfl, Nat.le_of_ble_eq_true rfl⟩ ?_
  have hF := va_free (wc := wM00 qm) hD hS hA [7] rfl
  refine va_callv (va_runI (As := [.int (iZ (if 0 < L then (xs 0).toInt else 0)), .int (iZ (if 1 < L then (xs 1).toInt else 0))]) (rest := [.ref qm]) ⟨hx, hb, hml, hown, hts⟩ (mM_init l D dB dI qm H.size (if 0 < L then (xs 0).toInt else 0) (if 1 < L then (xs 1).toInt else 0) (rng_cell 0) (rng_cell 1)) (cwI 2 hts (lw_meth q177) rfl rfl rfl (hts _ q22) (hts _ q175) (hts _ q176) rfl hd_X2_init ⟨Nat.le_of_ble_eq_true rfl, Nat.le_of_ble_eq_true rfl⟩) ⟨fun a U g mk q => by obtain ⟨q0, q1, qP, qK, qD⟩ := q; exact ⟨q0, q1, qP, va_K.moved (u := U) (U := U.calling g mk a) (Vm.Alike.refl U.vm) qK, qD⟩, fun U hU hW => ⟨rfl, by rw [hU], by rw [hU]; exact hPc, va_K.moved hW.alike hK, hDc.weaken (fun _ _ _ _ => trivial)⟩⟩ rfl rfl hl.1 rfl (lv_room (Nat.le_of_ble_eq_true rfl)) dL_law_32 ⟨Nat.le_of_ble_eq_true rfl, Nat.le_of_ble_eq_true rfl⟩) hS (fun q _ h => hF q h) hF (fun g t H2 locs2 ht hvm hw hB hz2 hk2 hS2 => ?_)
  obtain ⟨hP1, hD1⟩ := hB
  rw [ht] at hP1
  have hw : g 0 = qm := hw
  subst hw
  obtain ⟨hPa, hDa⟩ := va_join (wr := wX dB dI h (pb_new (if 0 < L then (xs 0).toInt else 0) (if 1 < L then (xs 1).toInt else 0)) pb_pri0) (w1 := wM dI g (pb_new (if 0 < L then (xs 0).toInt else 0) (if 1 < L then (xs 1).toInt else 0))) hP hD [7] [0, 1, 2, 3, 4, 5, 6] rfl rfl (by decide) (by decide) hk2 hF hP1 hD1
  refine W.widen (k := 10) (n := 209) (by omega) (by omega) ?_
  refine lv_astore_n (lv' := [(2, .ref (g 0)), (1, .ref (h 0)), (0, .ref b)]) hx hb dL_law_35 rfl hl (by decide) rfl (fun ls hl => ?_)
  refine zr_const hx hb dL_law_36 ?_
  refine lv_istore_n (lv' := [(3, .int (iZ 2)), (2, .ref (g 0)), (1, .ref (h 0)), (0, .ref b)]) hx hb dL_law_37 rfl hl (by decide) rfl (fun ls hl => ?_)
  exact law_loop l hL C0 hK (LD_of (u0 := (pb_new (if 0 < L then (xs 0).toInt else 0) (if 1 < L then (xs 1).toInt else 0), pb_pri0)) hDa) (ok_new _ _) (hPa.sub [0, 1, 2, 3, 4, 5, 6] rfl) hP1 hS2 (lv_sub hl [0, 3, 2, 1] rfl)
end
section
set_option maxHeartbeats 4000000 in
theorem lw_walk (l : Launch) (b : Addr) (xs : List Int32) : MetFree l x (headSpec (Jvm.Cond.code x code maxLocals ret :: tables_1) room_1) (lw_P b xs) (fun _ _ _ _ _ => True) lw_Q := by
  refine MetFree.of_bodyS (code := code) (maxLocals := maxLocals) (ret := ret) (by decide) ?_ ?_
  · intro args s m h hn
    obtain ⟨meth, c, h1, h2, h3, h4, h5, h6, -, -⟩ := Cond.code_spec hn (atoms_spec (ws := Jvm.Cond.code x code maxLocals ret :: tables_1) h _ List.mem_cons_self)
    exact ⟨meth, c, h1, h2, h3, h4, h5, h6⟩
  · intro p e s m args below meth c s₁ B hml0 hP _
    obtain ⟨rfl, hx, hbd, hgv⟩ := hP
    obtain ⟨scr, harrAt, hlist, hof, hsmall⟩ := hx
    obtain ⟨hcb, hkn, -, -⟩ := State.arrayAt?_spec harrAt
    have hown : s.vm.findClass R_law = some m.cls := findClass_of_methodNamed B.named
    have hts0 : ∀ c ∈ (Jvm.Cond.code x code maxLocals ret :: tables_1), c.before #[Value.ref b] s = true := atoms_spec (ws := Jvm.Cond.code x code maxLocals ret :: tables_1) B.pre
    have hts : ∀ w ∈ lw_tbl, w.before #[Value.ref b] s = true := k2_hts_sels lw_privs (fun w hw => hts0 w (List.mem_cons_of_mem _ hw)) lw_privs_ok
    have hml : c.maxLocals = 4 := B.maxLocals_eq (hts0 _ List.mem_cons_self)
    have X₀ : Stand p l e room_1 s m #[Value.ref b] below meth c s₁ [] 0 0 := Stand.of_body B
    have hh0 : s₁.heap = s.heap := by rw [B.state]; rfl
    have hsz : scr.slots.size = xs.length := by rw [← Array.length_toList, hlist, List.length_map]
    have hval : ∀ j : Nat, j < xs.length → scr.slots[j]? = some (.int (xs.getD j 0)) := fun j hj => by
      rw [← Array.getElem?_toList, hlist]
      simp [hj]
    have hbl : b < s.heap.size := (Array.getElem?_eq_some_iff.mp hcb).1
    have hX : va_X b xs.length (fun j => xs.getD j 0) s s.heap := ⟨scr, hcb, hof, hkn, hsz, hval⟩
    have K : W p l e room_1 s m #[Value.ref b] below meth c s₁.heap [] 0 0 (lw_Z below #[Value.ref b] s) (entryFrame m ([Value.ref b] : List Value).toArray 4) := by
      rw [hh0]
      exact whole_start l hbd ⟨B.exec, B.bytes, B.returns, hml, hown, hts, hX, hbl, B.notSynchronized, hgv⟩
    obtain ⟨t, a1, o, b1, b2, b3⟩ := K s₁ rfl X₀
    exact ⟨t, o, a1, b1, b2, b3⟩
theorem lw_pre_spec {args : Array Value} {s : State} (h : (Jvm.Cond.and given_1 narrow_1).before args s = true) (hr : rest_1_c.before args s = true) : ∃ (b : Addr) (xs : List Int32), lw_P b xs args s := by
  have hs := flat_of_before _ h
  have hq := flat_of_before _ hr
  have hc : (Cond.count 1).before args s = true := hs _ (by decide +kernel)
  have harr : (Cond.arrayOf (.arg 0) .int).before args s = true := hs _ (by decide +kernel)
  have hle : (Cond.le (.length (.arg 0)) (.int 258)).before args s = true := hs _ (by decide +kernel)
  have hlen : (Cond.isInt (.length (.arg 0))).before args s = true := hq _ (by decide +kernel)
  have hall : (Cond.all (.arg 0) (.isInt (.elem (.arg 0) (.index 0)))).before args s = true := hq _ (by decide +kernel)
  obtain ⟨b, xs, hb, hx⟩ := State.ints_of_pre rfl harr hlen hall
  have hsm : xs.length < 2 ^ 31 := hx.choose_spec.2.2.2
  have hev : (Term.length (.arg 0)).eval args s none [] s = some (.int xs.length.toInt32) := hx.length_eval hb
  have hv := Cond.le_ints hev (show (Term.int 258).eval args s none [] s = some (.int 258) from rfl)
  have hd : xs.length.toInt32 ≤ 258 := by
    simpa [Cond.before, Cond.holds, hv] using hle
  have hN : xs.length ≤ 258 := (Int32.ofNat_le_ofNat hsm (by decide)).mp (show Int32.ofNat xs.length ≤ Int32.ofNat 258 from hd)
  exact ⟨b, xs, Cond.one_arg hc (show args[0]? = some (.ref b) from hb), hx, hN, h⟩
theorem lw_comes (l : Launch) : Comes l x (Jvm.Cond.code x code maxLocals ret :: tables_1) room_1 (fun tb e args s => Calls_1 tb e args s ∧ rest_1 tb e args s ∧ Pre_1 tb e args s)
    (fun _ _ args s o t => lw_Q args s o t) := by
  intro p e ha hc hk s m args below hf hfit hheap happ hpre
  obtain ⟨b, xs, hP⟩ := lw_pre_spec hpre.2.2 hpre.2.1
  obtain ⟨k, o, h1, h2, h3, hQ⟩ := lw_walk l b xs p e ha hc hk s m args below hf ((Spec.applies_iff_loose hf).mp happ).1 hP trivial
  exact ⟨k, o, h1, h2, h3, hQ⟩
theorem lw_frame {s t : State} {o : Outcome} {args : Array Value} (h : Framed s o t [] 600000 7290000) :
    Framed s o t (fieldLocs frame_1_writes args s ++ arrayLocs frame_1_arrays args s ++ staticLocs frame_1_statics s) 600000 7290000 := h
theorem lw_limb (L : Cond) (hL : ∀ (args : Array Value) (s t : State), L.after args s (.returned (some (.int 1))) t = true) :
    ArmFor flags0 classFile x code maxLocals ret World_1 tables_1 room_1 Calls_1 rest_1 Pre_1
      (fun tb e a s o t => postC L tb e a s o t ∧ Framed s o t (fieldLocs frame_1_writes a s ++ arrayLocs frame_1_arrays a s ++ staticLocs frame_1_statics s) 600000 7290000) := by
  intro l _ _ _ p e ha hc hk s m args below hf hfit hheap happ hpre
  obtain ⟨k, o, h1, h2, h3, rfl, hF⟩ := lw_comes l p e ha hc hk s m args below hf hfit hheap happ hpre
  exact ⟨k, _, h1, h2, h3, hL args s _, lw_frame hF⟩
theorem i_vc : Claimed_1_1 ∧ Claimed_1_2 := ⟨lw_limb limb_1_1 (fun args s t => by simp [limb_1_1, Cond.after, Cond.holds, Cond.value]), lw_limb limb_1_2 (fun args s t => Cond.after_iff.mpr (by
  first | (rw [show limb_1_2 = Cond.eq .result (.int 1) from rfl, Cond.eq_ints (x := 1) (y := 1) rfl rfl]; simp; done) | (simp [limb_1_2, Cond.value, Term.eval]; done)))⟩
end
