section
/-! ===== pure: polynomials in four idempotent variables over two, as sets of 16 monomials ===== -/
def gq_ts (f t : Nat) : Nat → Nat
  | 0 => 0
  | n + 1 => if f.testBit n = true then gq_ts f t n ^^^ 2 ^ (n ||| t) else gq_ts f t n
def gq_T (f t : Nat) : Nat := gq_ts f t 16
def gq_es (f p : Nat) : Nat → Bool
  | 0 => false
  | n + 1 => if n &&& (15 ^^^ p) = 0 then (gq_es f p n ^^ f.testBit n) else gq_es f p n
def gq_ev (f p : Nat) : Bool := gq_es f p 16
theorem gq_xx (a b : Nat) : a ^^^ b ^^^ b = a := by rw [Nat.xor_assoc, Nat.xor_self, Nat.xor_zero]
theorem gq_x4 (a b e : Nat) : (a ^^^ e) ^^^ (b ^^^ e) = a ^^^ b := by
  rw [show (a ^^^ e) ^^^ (b ^^^ e) = (a ^^^ b) ^^^ (e ^^^ e) by ac_rfl, Nat.xor_self, Nat.xor_zero]
theorem gq_or16 {a b : Nat} (ha : a < 16) (hb : b < 16) : a ||| b < 16 := Nat.or_lt_two_pow (n := 4) ha hb
theorem gq_and16 {a b : Nat} (hb : b < 16) : a &&& b < 16 := Nat.and_lt_two_pow (n := 4) a hb
theorem gq_xor16 {a b : Nat} (ha : a < 16) (hb : b < 16) : a ^^^ b < 16 := Nat.xor_lt_two_pow (n := 4) ha hb
theorem gq_x64 {a b : Nat} (ha : a < 65536) (hb : b < 65536) : a ^^^ b < 65536 := Nat.xor_lt_two_pow (n := 16) ha hb
theorem gq_p16 {k : Nat} (hk : k < 16) : 2 ^ k < 65536 := show 2 ^ k < 2 ^ 16 from Nat.pow_lt_pow_right (by omega) hk
theorem gq_bit_lt {f k i : Nat} (hf : f < 2 ^ k) (h : f.testBit i = true) : i < k := by
  rcases Nat.lt_or_ge i k with g | g
  · exact g
  · rw [Nat.testBit_lt_two_pow (Nat.lt_of_lt_of_le hf (Nat.pow_le_pow_right (by omega) g))] at h
    exact absurd h (by decide)
theorem gq_lt_bit {f k : Nat} (h : ∀ i, f.testBit i = true → i < k) : f < 2 ^ k := by
  refine Nat.lt_pow_two_of_testBit f (fun i hi => ?_)
  cases e : f.testBit i
  · rfl
  · exact absurd (h i e) (by omega)
theorem gq_top_bit {f k : Nat} (h1 : ¬ f < 2 ^ k) (h2 : f < 2 ^ (k + 1)) : f.testBit k = true :=
  Nat.testBit_of_two_pow_le_and_two_pow_add_one_gt (by omega) h2
theorem gq_low {f k : Nat} (h2 : f < 2 ^ (k + 1)) (hb : f.testBit k = false) : f < 2 ^ k := by
  rcases Nat.lt_or_ge f (2 ^ k) with g | g
  · exact g
  · rw [gq_top_bit (by omega) h2] at hb
    exact absurd hb (by decide)
theorem gq_cut {a b k : Nat} (ha : a < 2 ^ (k + 1)) (hb : b < 2 ^ (k + 1)) (ta : a.testBit k = true) (tb : b.testBit k = true) : a ^^^ b < 2 ^ k :=
  gq_low (Nat.xor_lt_two_pow ha hb) (by rw [Nat.testBit_xor, ta, tb]; rfl)
theorem gq_pw (k : Nat) : 2 ^ k < 2 ^ (k + 1) := Nat.pow_lt_pow_right (by omega) (Nat.lt_succ_self k)
theorem gq_tp (k : Nat) : (2 ^ k).testBit k = true := Nat.testBit_two_pow_self
/-- every polynomial is a sum of monomials -/
theorem gq_ind {Q : Nat → Prop} (h0 : Q 0) (hs : ∀ a k, k < 16 → Q a → Q (a ^^^ 2 ^ k)) : ∀ f, f < 65536 → Q f := by
  have key : ∀ n, n ≤ 16 → ∀ f, f < 2 ^ n → Q f := by
    intro n
    induction n with
    | zero =>
      intro _ f hf
      have e : f = 0 := by rw [Nat.pow_zero] at hf; omega
      rw [e]; exact h0
    | succ n ih =>
      intro hn f hf
      rcases Nat.lt_or_ge f (2 ^ n) with h | h
      · exact ih (by omega) f h
      · have hb : f.testBit n = true := gq_top_bit (by omega) hf
        have h1 : f ^^^ 2 ^ n < 2 ^ n := gq_cut hf (gq_pw n) hb (gq_tp n)
        have h2 := hs (f ^^^ 2 ^ n) n (by omega) (ih (by omega) _ h1)
        rw [gq_xx] at h2
        exact h2
  intro f hf
  exact key 16 (Nat.le_refl _) f hf
theorem gq_ts_x (f g t : Nat) : ∀ n, gq_ts (f ^^^ g) t n = gq_ts f t n ^^^ gq_ts g t n
  | 0 => (Nat.xor_self 0).symm
  | n + 1 => by
    show (if (f ^^^ g).testBit n = true then gq_ts (f ^^^ g) t n ^^^ 2 ^ (n ||| t) else gq_ts (f ^^^ g) t n) = (if f.testBit n = true then gq_ts f t n ^^^ 2 ^ (n ||| t) else gq_ts f t n) ^^^ (if g.testBit n = true then gq_ts g t n ^^^ 2 ^ (n ||| t) else gq_ts g t n)
    rw [Nat.testBit_xor, gq_ts_x f g t n]
    generalize gq_ts f t n = A
    generalize gq_ts g t n = B
    generalize 2 ^ (n ||| t) = e
    cases f.testBit n <;> cases g.testBit n
    · rfl
    · show A ^^^ B ^^^ e = A ^^^ (B ^^^ e)
      ac_rfl
    · show A ^^^ B ^^^ e = A ^^^ e ^^^ B
      ac_rfl
    · show A ^^^ B = A ^^^ e ^^^ (B ^^^ e)
      rw [gq_x4]
theorem gq_T_x (f g t : Nat) : gq_T (f ^^^ g) t = gq_T f t ^^^ gq_T g t := gq_ts_x f g t 16
theorem gq_T_0 (t : Nat) : gq_T 0 t = 0 := by
  have h := gq_T_x 0 0 t
  rw [Nat.xor_self (gq_T 0 t)] at h
  exact h
theorem gq_T_p : ∀ k, k < 16 → ∀ t, t < 16 → gq_T (2 ^ k) t = 2 ^ (k ||| t) := by decide +kernel
theorem gq_ts_b (f t : Nat) : ∀ n q, (gq_ts f t n).testBit q = true → ∃ m, m < n ∧ f.testBit m = true ∧ q = m ||| t
  | 0, q, h => by
    rw [show gq_ts f t 0 = 0 from rfl, Nat.zero_testBit] at h
    exact absurd h (by decide)
  | n + 1, q, h => by
    have h' : (if f.testBit n = true then gq_ts f t n ^^^ 2 ^ (n ||| t) else gq_ts f t n).testBit q = true := h
    by_cases e : f.testBit n = true
    · rw [if_pos e, Nat.testBit_xor] at h'
      by_cases e2 : n ||| t = q
      · exact ⟨n, Nat.lt_succ_self n, e, e2.symm⟩
      · rw [Nat.testBit_two_pow_of_ne e2, Bool.xor_false] at h'
        obtain ⟨m, h1, h2, h3⟩ := gq_ts_b f t n q h'
        exact ⟨m, by omega, h2, h3⟩
    · rw [if_neg e] at h'
      obtain ⟨m, h1, h2, h3⟩ := gq_ts_b f t n q h'
      exact ⟨m, by omega, h2, h3⟩
theorem gq_T_16 {f t : Nat} (ht : t < 16) : gq_T f t < 65536 := by
  refine gq_lt_bit (k := 16) (fun i hi => ?_)
  obtain ⟨m, h1, _, h3⟩ := gq_ts_b f t 16 i hi
  rw [h3]
  exact gq_or16 h1 ht
theorem gq_mono_lt : ∀ k, k < 16 → ∀ m, m < k → ∀ t, t < 16 → t &&& k = 0 → m ||| t < k ||| t := by decide +kernel
theorem gq_T_lt {f t k : Nat} (hf : f < 2 ^ k) (hk : k < 16) (ht : t < 16) (hd : t &&& k = 0) : gq_T f t < 2 ^ (k ||| t) := by
  refine gq_lt_bit (fun i hi => ?_)
  obtain ⟨m, _, h2, h3⟩ := gq_ts_b f t 16 i hi
  rw [h3]
  exact gq_mono_lt k hk m (gq_bit_lt hf h2) t ht hd
theorem gq_T_1 {f : Nat} (hf : f < 65536) : gq_T f 0 = f := by
  refine gq_ind (Q := fun f => gq_T f 0 = f) (gq_T_0 0) (fun a k hk h => ?_) f hf
  show gq_T (a ^^^ 2 ^ k) 0 = a ^^^ 2 ^ k
  rw [gq_T_x, h, gq_T_p k hk 0 (by omega), Nat.or_zero]
theorem gq_T_T {f s t : Nat} (hf : f < 65536) (hs : s < 16) (ht : t < 16) : gq_T (gq_T f s) t = gq_T f (s ||| t) := by
  refine gq_ind (Q := fun f => gq_T (gq_T f s) t = gq_T f (s ||| t)) ?_ (fun a k hk h => ?_) f hf
  · show gq_T (gq_T 0 s) t = gq_T 0 (s ||| t)
    rw [gq_T_0, gq_T_0, gq_T_0]
  · show gq_T (gq_T (a ^^^ 2 ^ k) s) t = gq_T (a ^^^ 2 ^ k) (s ||| t)
    rw [gq_T_x, gq_T_x, gq_T_x, h, gq_T_p k hk s hs, gq_T_p _ (gq_or16 hk hs) t ht, gq_T_p k hk _ (gq_or16 hs ht), Nat.or_assoc]
/-! the head -/
theorem gq_h16 {g : Nat} (h0 : 0 < g) (h : g < 65536) : g.log2 < 16 := (Nat.log2_lt (by omega)).mpr h
theorem gq_hb {g : Nat} (h0 : 0 < g) : g.testBit g.log2 = true := Nat.testBit_log2 (by omega)
theorem gq_hl (g : Nat) : g < 2 ^ (g.log2 + 1) := Nat.lt_log2_self
theorem gq_hk {g k : Nat} (h0 : 0 < g) (h : g < 2 ^ k) : g.log2 < k := (Nat.log2_lt (by omega)).mpr h
theorem gq_hx {g k : Nat} (h1 : g < 2 ^ (k + 1)) (h2 : g.testBit k = true) : 0 < g ∧ g.log2 = k := by
  have h3 : 2 ^ k ≤ g := by
    rcases Nat.lt_or_ge g (2 ^ k) with h | h
    · exact absurd (gq_bit_lt h h2) (by omega)
    · exact h
  have h4 : 0 < 2 ^ k := Nat.two_pow_pos k
  exact ⟨by omega, (Nat.log2_eq_iff (by omega)).mpr ⟨h3, h1⟩⟩
theorem gq_T_head {g t : Nat} (h0 : 0 < g) (hg : g < 65536) (ht : t < 16) (hd : t &&& g.log2 = 0) : (gq_T g t).testBit (g.log2 ||| t) = true ∧ gq_T g t < 2 ^ ((g.log2 ||| t) + 1) := by
  have hk := gq_h16 h0 hg
  have h1 : g ^^^ 2 ^ g.log2 < 2 ^ g.log2 := gq_cut (gq_hl g) (gq_pw _) (gq_hb h0) (gq_tp _)
  have h2 : gq_T g t = gq_T (g ^^^ 2 ^ g.log2) t ^^^ 2 ^ (g.log2 ||| t) := by
    rw [gq_T_x, gq_T_p _ hk t ht, gq_xx]
  have h3 := gq_T_lt h1 hk ht hd
  rw [h2]
  refine ⟨?_, Nat.xor_lt_two_pow (Nat.lt_trans h3 (gq_pw _)) (gq_pw _)⟩
  rw [Nat.testBit_xor, Nat.testBit_lt_two_pow h3, gq_tp]
  rfl
/-! values -/
theorem gq_es_x (f g p : Nat) : ∀ n, gq_es (f ^^^ g) p n = (gq_es f p n ^^ gq_es g p n)
  | 0 => rfl
  | n + 1 => by
    show (if n &&& (15 ^^^ p) = 0 then (gq_es (f ^^^ g) p n ^^ (f ^^^ g).testBit n) else gq_es (f ^^^ g) p n) = ((if n &&& (15 ^^^ p) = 0 then (gq_es f p n ^^ f.testBit n) else gq_es f p n) ^^ (if n &&& (15 ^^^ p) = 0 then (gq_es g p n ^^ g.testBit n) else gq_es g p n))
    rw [Nat.testBit_xor, gq_es_x f g p n]
    by_cases e : n &&& (15 ^^^ p) = 0
    · rw [if_pos e, if_pos e, if_pos e]
      cases gq_es f p n <;> cases gq_es g p n <;> cases f.testBit n <;> cases g.testBit n <;> rfl
    · rw [if_neg e, if_neg e, if_neg e]
theorem gq_ev_x (f g p : Nat) : gq_ev (f ^^^ g) p = (gq_ev f p ^^ gq_ev g p) := gq_es_x f g p 16
theorem gq_ev_0 (p : Nat) : gq_ev 0 p = false := by
  have h := gq_ev_x 0 0 p
  rw [Bool.xor_self] at h
  exact h
theorem gq_ev_p : ∀ k, k < 16 → ∀ p, p < 16 → gq_ev (2 ^ k) p = decide (k &&& (15 ^^^ p) = 0) := by decide +kernel
theorem gq_or_dv : ∀ k, k < 16 → ∀ t, t < 16 → ∀ p, p < 16 → decide ((k ||| t) &&& (15 ^^^ p) = 0) = (decide (k &&& (15 ^^^ p) = 0) && decide (t &&& (15 ^^^ p) = 0)) := by decide +kernel
theorem gq_ev_T {f t p : Nat} (hf : f < 65536) (ht : t < 16) (hp : p < 16) : gq_ev (gq_T f t) p = (gq_ev f p && decide (t &&& (15 ^^^ p) = 0)) := by
  refine gq_ind (Q := fun f => gq_ev (gq_T f t) p = (gq_ev f p && decide (t &&& (15 ^^^ p) = 0))) ?_ (fun a k hk h => ?_) f hf
  · show gq_ev (gq_T 0 t) p = (gq_ev 0 p && decide (t &&& (15 ^^^ p) = 0))
    rw [gq_T_0, gq_ev_0, Bool.false_and]
  · show gq_ev (gq_T (a ^^^ 2 ^ k) t) p = (gq_ev (a ^^^ 2 ^ k) p && decide (t &&& (15 ^^^ p) = 0))
    rw [gq_T_x, gq_ev_x, gq_ev_x, h, gq_T_p k hk t ht, gq_ev_p _ (gq_or16 hk ht) p hp, gq_ev_p k hk p hp, gq_or_dv k hk t ht p hp]
    cases gq_ev a p <;> cases decide (k &&& (15 ^^^ p) = 0) <;> cases decide (t &&& (15 ^^^ p) = 0) <;> rfl
/-! delta polynomials: a polynomial is the sum of the deltas of the points where it is 1 -/
def gq_ds (p : Nat) : Nat → Nat
  | 0 => 0
  | n + 1 => if p &&& (15 ^^^ n) = 0 then gq_ds p n ^^^ 2 ^ n else gq_ds p n
def gq_d (p : Nat) : Nat := gq_ds p 16
def gq_fs (f : Nat) : Nat → Nat
  | 0 => 0
  | n + 1 => if gq_ev f n = true then gq_fs f n ^^^ gq_d n else gq_fs f n
theorem gq_d_ev : ∀ p, p < 16 → ∀ q, q < 16 → gq_ev (gq_d p) q = decide (q = p) := by decide +kernel
theorem gq_d_16 : ∀ p, p < 16 → gq_d p < 65536 := by decide +kernel
theorem gq_fs_p : ∀ k, k < 16 → gq_fs (2 ^ k) 16 = 2 ^ k := by decide +kernel
theorem gq_fs_x (f g : Nat) : ∀ n, gq_fs (f ^^^ g) n = gq_fs f n ^^^ gq_fs g n
  | 0 => (Nat.xor_self 0).symm
  | n + 1 => by
    show (if gq_ev (f ^^^ g) n = true then gq_fs (f ^^^ g) n ^^^ gq_d n else gq_fs (f ^^^ g) n) = (if gq_ev f n = true then gq_fs f n ^^^ gq_d n else gq_fs f n) ^^^ (if gq_ev g n = true then gq_fs g n ^^^ gq_d n else gq_fs g n)
    rw [gq_ev_x, gq_fs_x f g n]
    generalize gq_fs f n = A
    generalize gq_fs g n = B
    generalize gq_d n = e
    cases gq_ev f n <;> cases gq_ev g n
    · rfl
    · show A ^^^ B ^^^ e = A ^^^ (B ^^^ e)
      ac_rfl
    · show A ^^^ B ^^^ e = A ^^^ e ^^^ B
      ac_rfl
    · show A ^^^ B = A ^^^ e ^^^ (B ^^^ e)
      rw [gq_x4]
theorem gq_fs_self {f : Nat} (hf : f < 65536) : gq_fs f 16 = f := by
  refine gq_ind (Q := fun f => gq_fs f 16 = f) (by decide +kernel) (fun a k hk h => ?_) f hf
  show gq_fs (a ^^^ 2 ^ k) 16 = a ^^^ 2 ^ k
  rw [gq_fs_x, h, gq_fs_p k hk]
theorem gq_fs_c {f g : Nat} (h : ∀ q, q < 16 → gq_ev f q = gq_ev g q) : ∀ n, n ≤ 16 → gq_fs f n = gq_fs g n
  | 0, _ => rfl
  | n + 1, hn => by
    show (if gq_ev f n = true then gq_fs f n ^^^ gq_d n else gq_fs f n) = (if gq_ev g n = true then gq_fs g n ^^^ gq_d n else gq_fs g n)
    rw [h n (by omega), gq_fs_c h n (by omega)]
/-- a polynomial is known by its values -/
theorem gq_inj {f g : Nat} (hf : f < 65536) (hg : g < 65536) (h : ∀ q, q < 16 → gq_ev f q = gq_ev g q) : f = g := by
  rw [← gq_fs_self hf, ← gq_fs_self hg, gq_fs_c h 16 (Nat.le_refl _)]
/-- the product -/
def gq_pr (g d : Nat) : Nat → Nat
  | 0 => 0
  | n + 1 => if d.testBit n = true then gq_pr g d n ^^^ gq_T g n else gq_pr g d n
theorem gq_pr_16 {g d : Nat} : ∀ n, n ≤ 16 → gq_pr g d n < 65536
  | 0, _ => show 0 < 65536 by decide
  | n + 1, hn => by
    show (if d.testBit n = true then gq_pr g d n ^^^ gq_T g n else gq_pr g d n) < 65536
    by_cases e : d.testBit n = true
    · rw [if_pos e]; exact gq_x64 (gq_pr_16 n (by omega)) (gq_T_16 (by omega))
    · rw [if_neg e]; exact gq_pr_16 n (by omega)
theorem gq_pr_ev {g d p : Nat} (hg : g < 65536) (hp : p < 16) : ∀ n, n ≤ 16 → gq_ev (gq_pr g d n) p = (gq_ev g p && gq_es d p n)
  | 0, _ => by
    show gq_ev 0 p = (gq_ev g p && false)
    rw [gq_ev_0, Bool.and_false]
  | n + 1, hn => by
    have ih := gq_pr_ev (d := d) hg hp n (by omega)
    show gq_ev (if d.testBit n = true then gq_pr g d n ^^^ gq_T g n else gq_pr g d n) p = (gq_ev g p && (if n &&& (15 ^^^ p) = 0 then (gq_es d p n ^^ d.testBit n) else gq_es d p n))
    by_cases e : d.testBit n = true
    · rw [if_pos e, e, gq_ev_x, ih, gq_ev_T hg (by omega) hp]
      by_cases e2 : n &&& (15 ^^^ p) = 0
      · rw [if_pos e2, decide_eq_true e2]
        cases gq_ev g p <;> cases gq_es d p n <;> rfl
      · rw [if_neg e2, decide_eq_false e2]
        cases gq_ev g p <;> cases gq_es d p n <;> rfl
    · rw [if_neg e, ih, show d.testBit n = false by cases h : d.testBit n; rfl; exact absurd h e, Bool.xor_false, ite_self]
end
section
/-! ===== pure: what is a sum of multiples below a bound; completing ===== -/
/-- a monomial's weight: its exponents as digits of four; the weight of a product of two, squares kept, is the sum -/
def gq_w (m : Nat) : Nat := m % 2 + 4 * (m / 2 % 2) + 16 * (m / 4 % 2) + 64 * (m / 8 % 2)
theorem gq_w_lt : ∀ k, k < 16 → ∀ m, m < k → gq_w m < gq_w k := by decide +kernel
theorem gq_w_or : ∀ a, a < 16 → ∀ b, b < 16 → gq_w (a ||| b) ≤ gq_w a + gq_w b := by decide +kernel
theorem gq_w_dj : ∀ a, a < 16 → ∀ b, b < 16 → b &&& a = 0 → gq_w (a ||| b) = gq_w a + gq_w b := by decide +kernel
theorem gq_w_inj : ∀ a, a < 16 → ∀ b, b < 16 → gq_w a = gq_w b → a = b := by decide +kernel
theorem gq_w_85 : ∀ a, a < 16 → gq_w a ≤ 85 := by decide +kernel
theorem gq_w_v : ∀ v, v < 4 → 0 < gq_w (2 ^ v) := by decide +kernel
theorem gq_w_le {m k : Nat} (hk : k < 16) (h : m ≤ k) : gq_w m ≤ gq_w k := by
  rcases Nat.eq_or_lt_of_le h with e | e
  · rw [e]; exact Nat.le_refl _
  · exact Nat.le_of_lt (gq_w_lt k hk m e)
/-- all monomials of f weigh less than K -/
def gq_lo (K f : Nat) : Prop := ∀ m, m < 16 → f.testBit m = true → gq_w m < K
theorem gq_lo_x {K a b : Nat} (ha : gq_lo K a) (hb : gq_lo K b) : gq_lo K (a ^^^ b) := by
  intro m hm h
  rw [Nat.testBit_xor] at h
  by_cases c : a.testBit m = true
  · exact ha m hm c
  · refine hb m hm ?_
    rw [show a.testBit m = false by cases e : a.testBit m; rfl; exact absurd e c, Bool.false_xor] at h
    exact h
theorem gq_lo_m {K K' f : Nat} (h : gq_lo K f) (hk : K ≤ K') : gq_lo K' f := fun m hm hb => Nat.lt_of_lt_of_le (h m hm hb) hk
theorem gq_lo_171 (f : Nat) : gq_lo 171 f := fun m hm _ => Nat.lt_of_le_of_lt (gq_w_85 m hm) (by decide)
theorem gq_lo_2 {f k : Nat} (hk : k < 16) (hf : f < 2 ^ k) : gq_lo (gq_w k) f := fun m _ hb => gq_w_lt k hk m (gq_bit_lt hf hb)
theorem gq_lo_h {g : Nat} (h0 : 0 < g) (hg : g < 65536) : gq_lo (gq_w g.log2 + 1) g := fun m _ hb =>
  Nat.lt_succ_of_le (gq_w_le (gq_h16 h0 hg) (Nat.le_of_lt_succ (gq_bit_lt (gq_hl g) hb)))
theorem gq_lo_T {g t : Nat} (h0 : 0 < g) (hg : g < 65536) (ht : t < 16) : gq_lo (gq_w g.log2 + gq_w t + 1) (gq_T g t) := by
  intro q hq hb
  obtain ⟨m, h1, h2, h3⟩ := gq_ts_b g t 16 q hb
  have h4 := gq_w_or m h1 t ht
  have h5 := gq_w_le (gq_h16 h0 hg) (Nat.le_of_lt_succ (gq_bit_lt (gq_hl g) h2))
  rw [h3]
  omega
def gq_Sp (S : Nat → Prop) (K f : Nat) : Prop := ∀ Q : Nat → Prop, Q 0 → (∀ a g t, Q a → S g → t < 16 → gq_w g.log2 + gq_w t < K → Q (a ^^^ gq_T g t)) → Q f
def gq_ok (S : Nat → Prop) : Prop := ∀ g, S g → 0 < g ∧ g < 65536
theorem gq_Sp_0 {S : Nat → Prop} {K : Nat} : gq_Sp S K 0 := fun _ h0 _ => h0
theorem gq_Sp_g {S : Nat → Prop} {K a g t : Nat} (ha : gq_Sp S K a) (hg : S g) (ht : t < 16) (hl : gq_w g.log2 + gq_w t < K) : gq_Sp S K (a ^^^ gq_T g t) :=
  fun Q h0 hs => hs a g t (ha Q h0 hs) hg ht hl
theorem gq_Sp_x {S : Nat → Prop} {K a b : Nat} (ha : gq_Sp S K a) (hb : gq_Sp S K b) : gq_Sp S K (a ^^^ b) := by
  refine hb (fun x => gq_Sp S K (a ^^^ x)) ?_ (fun x g t hx hg ht hl => ?_)
  · show gq_Sp S K (a ^^^ 0)
    rw [Nat.xor_zero]; exact ha
  · show gq_Sp S K (a ^^^ (x ^^^ gq_T g t))
    rw [← Nat.xor_assoc]; exact gq_Sp_g hx hg ht hl
theorem gq_Sp_1 {S : Nat → Prop} {K g t : Nat} (hg : S g) (ht : t < 16) (hl : gq_w g.log2 + gq_w t < K) : gq_Sp S K (gq_T g t) := by
  have h := gq_Sp_g gq_Sp_0 hg ht hl
  rwa [Nat.zero_xor] at h
theorem gq_Sp_m {S S' : Nat → Prop} {K K' f : Nat} (h : gq_Sp S K f) (hS : ∀ g, S g → S' g) (hk : K ≤ K') : gq_Sp S' K' f :=
  fun Q h0 hs => h Q h0 (fun a g t qa hg ht hl => hs a g t qa (hS g hg) ht (Nat.lt_of_lt_of_le hl hk))
theorem gq_Sp_k {S : Nat → Prop} {K K' f : Nat} (h : gq_Sp S K f) (hk : K ≤ K') : gq_Sp S K' f := gq_Sp_m h (fun _ x => x) hk
theorem gq_Sp_lo {S : Nat → Prop} {K f : Nat} (hS : gq_ok S) (h : gq_Sp S K f) : f < 65536 ∧ gq_lo K f := by
  refine h (fun x => x < 65536 ∧ gq_lo K x) ⟨by decide, fun m _ hb => ?_⟩ (fun a g t ha hg ht hl => ?_)
  · rw [Nat.zero_testBit] at hb; exact absurd hb (by decide)
  · exact ⟨gq_x64 ha.1 (gq_T_16 ht), gq_lo_x ha.2 (gq_lo_m (gq_lo_T (hS g hg).1 (hS g hg).2 ht) hl)⟩
theorem gq_Sp_self {S : Nat → Prop} {K g : Nat} (hS : gq_ok S) (hg : S g) (hl : gq_w g.log2 < K) : gq_Sp S K g := by
  have h := gq_Sp_1 (K := K) (t := 0) hg (by omega) hl
  rwa [gq_T_1 (hS g hg).2] at h
theorem gq_Sp_ev {S : Nat → Prop} {K f p : Nat} (hS : gq_ok S) (hp : p < 16) (hz : ∀ g, S g → gq_ev g p = false) (h : gq_Sp S K f) : gq_ev f p = false := by
  refine h (fun x => gq_ev x p = false) (gq_ev_0 p) (fun a g t ha hg ht hl => ?_)
  show gq_ev (a ^^^ gq_T g t) p = false
  rw [gq_ev_x, ha, gq_ev_T (hS g hg).2 ht hp, hz g hg]
  rfl
/-- multiplying by a monomial -/
theorem gq_B {S : Nat → Prop} (hS : gq_ok S) {K u a : Nat} (hu : u < 16) (ha : gq_Sp S K a) : gq_Sp S (K + gq_w u) (gq_T a u) := by
  refine ha (fun x => gq_Sp S (K + gq_w u) (gq_T x u)) ?_ (fun x g s hx hg hs hm => ?_)
  · show gq_Sp S (K + gq_w u) (gq_T 0 u)
    rw [gq_T_0]; exact gq_Sp_0
  · show gq_Sp S (K + gq_w u) (gq_T (x ^^^ gq_T g s) u)
    rw [gq_T_x, gq_T_T (hS g hg).2 hs hu]
    have h1 := gq_w_or s hs u hu
    exact gq_Sp_x hx (gq_Sp_1 hg (gq_or16 hs hu) (by omega))
theorem gq_A16 {S : Nat → Prop} (hS : gq_ok S) {g t : Nat} (hg : S g) (ht : t < 16) : gq_Sp S 171 (gq_T g t) := by
  have h1 := gq_w_85 g.log2 (gq_h16 (hS g hg).1 (hS g hg).2)
  have h2 := gq_w_85 t ht
  exact gq_Sp_1 hg ht (by omega)
theorem gq_Bt {S : Nat → Prop} (hS : gq_ok S) {u a : Nat} (hu : u < 16) (ha : gq_Sp S 171 a) : gq_Sp S 171 (gq_T a u) := by
  refine ha (fun x => gq_Sp S 171 (gq_T x u)) ?_ (fun x g s hx hg hs hm => ?_)
  · show gq_Sp S 171 (gq_T 0 u)
    rw [gq_T_0]; exact gq_Sp_0
  · show gq_Sp S 171 (gq_T (x ^^^ gq_T g s) u)
    rw [gq_T_x, gq_T_T (hS g hg).2 hs hu]
    exact gq_Sp_x hx (gq_A16 hS hg (gq_or16 hs hu))
/-- the squares' condition for one polynomial -/
def gq_Sq (S : Nat → Prop) (g : Nat) : Prop := ∀ v, v < 4 → g.log2.testBit v = true → gq_Sp S (gq_w g.log2 + gq_w (2 ^ v)) (gq_T g (2 ^ v))
/-- the pairs' condition -/
def gq_Pc (S : Nat → Prop) (g g' : Nat) : Prop := gq_Sp S (gq_w (g.log2 ||| g'.log2)) (gq_T g ((g.log2 ||| g'.log2) &&& (15 ^^^ g.log2)) ^^^ gq_T g' ((g.log2 ||| g'.log2) &&& (15 ^^^ g'.log2)))
def gq_Full (S : Nat → Prop) : Prop := gq_ok S ∧ (∀ g, S g → gq_Sq S g) ∧ (∀ g g', S g → S g' → gq_Pc S g g')
theorem gq_pick : ∀ t, t < 16 → ∀ h, h < 16 → ¬ t &&& h = 0 → ∃ v, v < 4 ∧ t.testBit v = true ∧ h.testBit v = true := by decide +kernel
theorem gq_pick2 : ∀ t, t < 16 → ∀ v, v < 4 → t.testBit v = true → t ^^^ 2 ^ v < 16 ∧ 2 ^ v ||| (t ^^^ 2 ^ v) = t ∧ gq_w (2 ^ v) + gq_w (t ^^^ 2 ^ v) = gq_w t := by decide +kernel
theorem gq_v16 : ∀ v, v < 4 → 2 ^ v < 16 := by decide
theorem gq_dj : ∀ h, h < 16 → ∀ t, t < 16 → t &&& h = 0 → (h ||| t) &&& (15 ^^^ h) = t := by decide +kernel
theorem gq_tri1 : ∀ k, k < 16 → ∀ h, h < 16 → ∀ j, j < 16 → (h ||| k = k ∧ j ||| k = k) → ((h ||| j) &&& (15 ^^^ h)) ||| (k &&& (15 ^^^ (h ||| j))) = k &&& (15 ^^^ h) := by decide +kernel
theorem gq_tri2 : ∀ k, k < 16 → ∀ h, h < 16 → ∀ j, j < 16 → (h ||| k = k ∧ j ||| k = k) → ((h ||| j) &&& (15 ^^^ j)) ||| (k &&& (15 ^^^ (h ||| j))) = k &&& (15 ^^^ j) := by decide +kernel
theorem gq_tri3 : ∀ k, k < 16 → ∀ h, h < 16 → ∀ j, j < 16 → (h ||| k = k ∧ j ||| k = k) → gq_w (h ||| j) + gq_w (k &&& (15 ^^^ (h ||| j))) = gq_w k := by decide +kernel
theorem gq_n16 {a : Nat} (h : a < 16) (b : Nat) : b &&& (15 ^^^ a) < 16 := gq_and16 (gq_xor16 (by omega) h)
section
variable {S : Nat → Prop}
/-- a sum of multiples: at most one at the bound itself is wanted, and that one without squares -/
theorem gq_C (F : gq_Full S) {K f : Nat} (hf : gq_Sp S (K + 1) f) : gq_Sp S K f ∨ ∃ g t, S g ∧ t < 16 ∧ t &&& g.log2 = 0 ∧ gq_w g.log2 + gq_w t = K ∧ gq_Sp S K (f ^^^ gq_T g t) := by
  refine hf (fun f => gq_Sp S K f ∨ ∃ g t, S g ∧ t < 16 ∧ t &&& g.log2 = 0 ∧ gq_w g.log2 + gq_w t = K ∧ gq_Sp S K (f ^^^ gq_T g t)) (Or.inl gq_Sp_0) (fun a g t ha hg ht hl => ?_)
  have low : gq_Sp S K (gq_T g t) → gq_Sp S K (a ^^^ gq_T g t) ∨ ∃ g' t', S g' ∧ t' < 16 ∧ t' &&& g'.log2 = 0 ∧ gq_w g'.log2 + gq_w t' = K ∧ gq_Sp S K (a ^^^ gq_T g t ^^^ gq_T g' t') := by
    intro h
    rcases ha with ha | ⟨g0, t0, h1, h2, h3, h4, h5⟩
    · exact Or.inl (gq_Sp_x ha h)
    · refine Or.inr ⟨g0, t0, h1, h2, h3, h4, ?_⟩
      rw [show a ^^^ gq_T g t ^^^ gq_T g0 t0 = a ^^^ gq_T g0 t0 ^^^ gq_T g t by ac_rfl]
      exact gq_Sp_x h5 h
  have hg16 := gq_h16 (F.1 g hg).1 (F.1 g hg).2
  rcases Nat.lt_or_ge (gq_w g.log2 + gq_w t) K with h | h
  · exact low (gq_Sp_1 hg ht h)
  · have e : gq_w g.log2 + gq_w t = K := by omega
    by_cases hd : t &&& g.log2 = 0
    · rcases ha with ha | ⟨g0, t0, h1, h2, h3, h4, h5⟩
      · exact Or.inr ⟨g, t, hg, ht, hd, e, by rw [gq_xx]; exact ha⟩
      · refine Or.inl ?_
        have h016 := gq_h16 (F.1 g0 h1).1 (F.1 g0 h1).2
        have k16 : g.log2 ||| t < 16 := gq_or16 hg16 ht
        have ek : g0.log2 ||| t0 = g.log2 ||| t := by
          refine gq_w_inj _ (gq_or16 h016 h2) _ k16 ?_
          rw [gq_w_dj _ h016 _ h2 h3, gq_w_dj _ hg16 _ ht hd, h4, e]
        have e0 : (g.log2 ||| t) &&& (15 ^^^ g0.log2) = t0 := by rw [← ek]; exact gq_dj _ h016 t0 h2 h3
        have e1 : (g.log2 ||| t) &&& (15 ^^^ g.log2) = t := gq_dj _ hg16 t ht hd
        have d0 : g0.log2 ||| (g.log2 ||| t) = g.log2 ||| t := by rw [← ek, ← Nat.or_assoc, Nat.or_self]
        have d1 : g.log2 ||| (g.log2 ||| t) = g.log2 ||| t := by rw [← Nat.or_assoc, Nat.or_self]
        have q1 := gq_tri1 _ k16 _ h016 _ hg16 ⟨d0, d1⟩
        have q2 := gq_tri2 _ k16 _ h016 _ hg16 ⟨d0, d1⟩
        have q3 := gq_tri3 _ k16 _ h016 _ hg16 ⟨d0, d1⟩
        have l16 : g0.log2 ||| g.log2 < 16 := gq_or16 h016 hg16
        have u16 := gq_n16 l16 (g.log2 ||| t)
        have key := gq_B F.1 u16 (F.2.2 g0 g h1 hg)
        rw [q3, gq_w_dj _ hg16 _ ht hd, e, gq_T_x, gq_T_T (F.1 g0 h1).2 (gq_n16 h016 _) u16, gq_T_T (F.1 g hg).2 (gq_n16 hg16 _) u16, q1, q2, e0, e1] at key
        have h6 := gq_Sp_x h5 key
        rw [← Nat.xor_assoc, gq_xx] at h6
        exact h6
    · refine low ?_
      obtain ⟨v, hv, hvt, hvh⟩ := gq_pick t ht _ hg16 hd
      obtain ⟨c1, c2, c3⟩ := gq_pick2 t ht v hv hvt
      have key := gq_B F.1 c1 (F.2.1 g hg v hv hvh)
      rw [gq_T_T (F.1 g hg).2 (gq_v16 v hv) c1, c2, Nat.add_assoc, c3, e] at key
      exact key
theorem gq_dv_or : ∀ h, h < 16 → ∀ t, t < 16 → h &&& (15 ^^^ (h ||| t)) = 0 := by decide +kernel
/-- the head of a sum of multiples is divided by a head -/
theorem gq_top (F : gq_Full S) : ∀ K f, 0 < f → gq_Sp S K f → ∃ g, S g ∧ g.log2 &&& (15 ^^^ f.log2) = 0
  | 0, f, h0, hf => by
    have h : f = 0 := hf (fun x => x = 0) rfl (fun a g t _ _ _ hl => absurd hl (by omega))
    exact absurd h (by omega)
  | K + 1, f, h0, hf => by
    rcases gq_C F hf with h | ⟨g, t, hg, ht, hd, e, hs⟩
    · exact gq_top F K f h0 h
    · have f16 := (gq_Sp_lo F.1 hf).1
      have h1 := (gq_Sp_lo F.1 hs).2
      have h2 := gq_T_head (F.1 g hg).1 (F.1 g hg).2 ht hd
      have hg16 := gq_h16 (F.1 g hg).1 (F.1 g hg).2
      have k16 := gq_or16 hg16 ht
      have ek := gq_w_dj _ hg16 _ ht hd
      have h3 : f.testBit (g.log2 ||| t) = true := by
        cases c : f.testBit (g.log2 ||| t)
        · have h4 := h1 _ k16 (by rw [Nat.testBit_xor, c, h2.1]; rfl)
          omega
        · rfl
      have h5 : f < 2 ^ ((g.log2 ||| t) + 1) := by
        refine gq_lt_bit (fun m hm => ?_)
        have m16 : m < 16 := gq_bit_lt (k := 16) f16 hm
        rcases Nat.lt_or_ge m ((g.log2 ||| t) + 1) with c | c
        · exact c
        · have h6 : (gq_T g t).testBit m = false := Nat.testBit_lt_two_pow (Nat.lt_of_lt_of_le h2.2 (Nat.pow_le_pow_right (by omega) c))
          have h7 := h1 m m16 (by rw [Nat.testBit_xor, hm, h6]; rfl)
          have h8 := gq_w_lt m m16 (g.log2 ||| t) (by omega)
          omega
      refine ⟨g, hg, ?_⟩
      rw [(gq_hx h5 h3).2]
      exact gq_dv_or _ hg16 t ht
/-! what vanishes on the zeros is a sum of multiples -/
theorem gq_pr_Sp (hS : gq_ok S) {g d : Nat} (hg : S g) : ∀ n, n ≤ 16 → gq_Sp S 171 (gq_pr g d n)
  | 0, _ => gq_Sp_0
  | n + 1, hn => by
    show gq_Sp S 171 (if d.testBit n = true then gq_pr g d n ^^^ gq_T g n else gq_pr g d n)
    by_cases e : d.testBit n = true
    · rw [if_pos e]; exact gq_Sp_x (gq_pr_Sp hS hg n (by omega)) (gq_A16 hS hg (by omega))
    · rw [if_neg e]; exact gq_pr_Sp hS hg n (by omega)
theorem gq_d_Sp (hS : gq_ok S) {g p : Nat} (hp : p < 16) (hg : S g) (hv : gq_ev g p = true) : gq_Sp S 171 (gq_d p) := by
  have h := gq_pr_Sp hS (d := gq_d p) hg 16 (Nat.le_refl _)
  have e : gq_pr g (gq_d p) 16 = gq_d p := by
    refine gq_inj (gq_pr_16 16 (Nat.le_refl _)) (gq_d_16 p hp) (fun q hq => ?_)
    rw [gq_pr_ev (hS g hg).2 hq 16 (Nat.le_refl _)]
    show (gq_ev g q && gq_ev (gq_d p) q) = gq_ev (gq_d p) q
    rw [gq_d_ev p hp q hq]
    by_cases c : q = p
    · rw [c, hv]; rfl
    · rw [decide_eq_false c, Bool.and_false]
  rwa [e] at h
theorem gq_fs_Sp (hS : gq_ok S) {f : Nat} (hv : ∀ p, p < 16 → (∀ g, S g → gq_ev g p = false) → gq_ev f p = false) : ∀ n, n ≤ 16 → gq_Sp S 171 (gq_fs f n)
  | 0, _ => gq_Sp_0
  | n + 1, hn => by
    show gq_Sp S 171 (if gq_ev f n = true then gq_fs f n ^^^ gq_d n else gq_fs f n)
    by_cases e : gq_ev f n = true
    · rw [if_pos e]
      refine gq_Sp_x (gq_fs_Sp hS hv n (by omega)) ?_
      by_cases c : ∃ g, S g ∧ gq_ev g n = true
      · obtain ⟨g, hg, hc⟩ := c
        exact gq_d_Sp hS (by omega) hg hc
      · have z := hv n (by omega) (fun g hg => by
          cases h : gq_ev g n
          · rfl
          · exact absurd ⟨g, hg, h⟩ c)
        rw [z] at e
        exact absurd e (by decide)
    · rw [if_neg e]; exact gq_fs_Sp hS hv n (by omega)
theorem gq_N (hS : gq_ok S) {f : Nat} (hf : f < 65536) : gq_Sp S 171 f ↔ ∀ p, p < 16 → (∀ g, S g → gq_ev g p = false) → gq_ev f p = false := by
  constructor
  · intro h p hp hz
    exact gq_Sp_ev hS hp hz h
  · intro h
    have z := gq_fs_Sp hS h 16 (Nat.le_refl _)
    rwa [gq_fs_self hf] at z
end
/-! what reduce answers -/
def gq_R (S : Nat → Prop) (f r : Nat) : Prop := r < 65536 ∧ (∀ K, gq_lo K f → gq_lo K r ∧ gq_Sp S K (f ^^^ r)) ∧ (∀ m, m < 16 → r.testBit m = true → ∀ g, S g → ¬ g.log2 &&& (15 ^^^ m) = 0)
/-- on the way, monomials from m up done -/
def gq_RI (S : Nat → Prop) (f m r : Nat) : Prop := r < 65536 ∧ (∀ K, gq_lo K f → gq_lo K r ∧ gq_Sp S K (f ^^^ r)) ∧ (∀ i, i < 16 → m ≤ i → r.testBit i = true → ∀ g, S g → ¬ g.log2 &&& (15 ^^^ i) = 0)
theorem gq_RI_0 {S : Nat → Prop} {f : Nat} (hf : f < 65536) : gq_RI S f 16 f :=
  ⟨hf, fun K h => ⟨h, by rw [Nat.xor_self]; exact gq_Sp_0⟩, fun i h1 h2 => absurd h1 (by omega)⟩
theorem gq_RI_e {S : Nat → Prop} {f r : Nat} (h : gq_RI S f 0 r) : gq_R S f r := ⟨h.1, h.2.1, fun m hm => h.2.2 m hm (Nat.zero_le _)⟩
theorem gq_RI_s {S : Nat → Prop} {f m r : Nat} (h : gq_RI S f (m + 1) r) (c : r.testBit m = true → ∀ g, S g → ¬ g.log2 &&& (15 ^^^ m) = 0) : gq_RI S f m r := by
  refine ⟨h.1, h.2.1, fun i h1 h2 h3 => ?_⟩
  by_cases e : i = m
  · rw [e]; rw [e] at h3; exact c h3
  · exact h.2.2 i h1 (by omega) h3
theorem gq_dv_m : ∀ h, h < 16 → ∀ m, m < 16 → h &&& (15 ^^^ m) = 0 → h ||| (m &&& (15 ^^^ h)) = m ∧ (m &&& (15 ^^^ h)) &&& h = 0 ∧ gq_w h + gq_w (m &&& (15 ^^^ h)) = gq_w m := by decide +kernel
theorem gq_RI_g {S : Nat → Prop} {f m r g : Nat} (hS : gq_ok S) (hm : m < 16) (h : gq_RI S f (m + 1) r) (hb : r.testBit m = true) (hg : S g) (hd : g.log2 &&& (15 ^^^ m) = 0) : gq_RI S f m (r ^^^ gq_T g (m &&& (15 ^^^ g.log2))) := by
  have hg16 := gq_h16 (hS g hg).1 (hS g hg).2
  obtain ⟨d1, d2, d3⟩ := gq_dv_m _ hg16 m hm hd
  have t16 := gq_n16 hg16 m
  have hT := gq_T_head (hS g hg).1 (hS g hg).2 t16 d2
  have hlo := gq_lo_T (hS g hg).1 (hS g hg).2 t16
  rw [d1] at hT
  rw [d3] at hlo
  refine ⟨gq_x64 h.1 (gq_T_16 t16), fun K hf => ?_, fun i h1 h2 h3 => ?_⟩
  · obtain ⟨a, b⟩ := h.2.1 K hf
    have mk : gq_w m < K := a m hm hb
    refine ⟨gq_lo_x a (gq_lo_m hlo mk), ?_⟩
    rw [← Nat.xor_assoc]
    exact gq_Sp_g b hg t16 (by omega)
  · rw [Nat.testBit_xor] at h3
    by_cases e : i = m
    · rw [e, hb, hT.1] at h3
      exact absurd h3 (by decide)
    · rw [Nat.testBit_lt_two_pow (Nat.lt_of_lt_of_le hT.2 (Nat.pow_le_pow_right (n := 2) (by omega) (show m + 1 ≤ i by omega))), Bool.xor_false] at h3
      exact h.2.2 i h1 (by omega) h3
/-- with what is left taken in, the polynomial is a sum of multiples -/
theorem gq_take {S S' : Nat → Prop} {f r K : Nat} (hS : gq_ok S') (h : gq_R S f r) (hs : ∀ g, S g → S' g) (hr : r = 0 ∨ S' r) (hf : gq_lo K f) : gq_Sp S' K f := by
  obtain ⟨a, b⟩ := h.2.1 K hf
  have h1 := gq_Sp_m b hs (Nat.le_refl K)
  rcases hr with e | e
  · rw [e, Nat.xor_zero] at h1; exact h1
  · have h2 := gq_Sp_x h1 (gq_Sp_self hS e (a _ (gq_h16 (hS r e).1 (hS r e).2) (gq_hb (hS r e).1)))
    rwa [gq_xx] at h2
theorem gq_R0 {S : Nat → Prop} (F : gq_Full S) {f r : Nat} (h : gq_R S f r) : r = 0 ↔ gq_Sp S 171 f := by
  obtain ⟨a, b⟩ := h.2.1 171 (gq_lo_171 f)
  constructor
  · intro e
    rw [e, Nat.xor_zero] at b; exact b
  · intro e
    rcases Nat.eq_zero_or_pos r with c | c
    · exact c
    · have h1 := gq_Sp_x e b
      rw [← Nat.xor_assoc, Nat.xor_self, Nat.zero_xor] at h1
      obtain ⟨g, hg, hd⟩ := gq_top F 171 r c h1
      exact absurd hd (h.2.2 r.log2 (gq_h16 c h.1) (gq_hb c) g hg)
/-! the reduced basis has the same zeros -/
theorem gq_lead {S : Nat → Prop} {m r : Nat} (hm : m < 16) (h : gq_R S (2 ^ m) r) (hb : ∃ g, S g ∧ g.log2 &&& (15 ^^^ m) = 0) : 2 ^ m ^^^ r < 65536 ∧ 0 < 2 ^ m ^^^ r ∧ (2 ^ m ^^^ r).log2 = m ∧ gq_Sp S 171 (2 ^ m ^^^ r) := by
  have l1 : gq_lo (gq_w m + 1) (2 ^ m) := fun q _ hq => Nat.lt_succ_of_le (gq_w_le hm (Nat.le_of_lt_succ (gq_bit_lt (gq_pw m) hq)))
  obtain ⟨a, _⟩ := h.2.1 _ l1
  obtain ⟨_, b⟩ := h.2.1 171 (gq_lo_171 _)
  obtain ⟨g, hg, hd⟩ := hb
  have h1 : r.testBit m = false := by
    cases c : r.testBit m
    · rfl
    · exact absurd hd (h.2.2 m hm c g hg)
  have h2 : r < 2 ^ (m + 1) := by
    refine gq_lt_bit (fun q hq => ?_)
    have q16 : q < 16 := gq_bit_lt (k := 16) h.1 hq
    have h3 := a q q16 hq
    rcases Nat.lt_or_ge m q with c | c
    · have h4 := gq_w_lt q q16 m c
      omega
    · omega
  have h5 := gq_hx (Nat.xor_lt_two_pow (gq_pw m) h2) (by rw [Nat.testBit_xor, h1, gq_tp]; rfl)
  exact ⟨gq_x64 (gq_p16 hm) h.1, h5.1, h5.2, b⟩
theorem gq_Z {S B : Nat → Prop} (F : gq_Full S) (hB : ∀ b, B b → b < 65536 ∧ gq_Sp S 171 b) (hm : ∀ m, m < 16 → (∃ g, S g ∧ g.log2 &&& (15 ^^^ m) = 0) → ∃ b, B b ∧ 0 < b ∧ b.log2 &&& (15 ^^^ m) = 0) {q : Nat} (hq : q < 16) : (∀ b, B b → gq_ev b q = false) ↔ (∀ g, S g → gq_ev g q = false) := by
  constructor
  · intro hz
    have key : ∀ f, gq_Sp S 171 f → gq_ev f q = false := by
      intro f
      induction f using Nat.strongRecOn with
      | _ f ih =>
        intro hf
        rcases Nat.eq_zero_or_pos f with c | c
        · rw [c]; exact gq_ev_0 q
        · have f16 : f < 65536 := (gq_Sp_lo F.1 hf).1
          have l16 := gq_h16 c f16
          obtain ⟨b, hb, b0, bd⟩ := hm f.log2 l16 (gq_top F 171 f c hf)
          obtain ⟨b16, bs⟩ := hB b hb
          have h16 := gq_h16 b0 b16
          obtain ⟨d1, d2, d3⟩ := gq_dv_m _ h16 _ l16 bd
          have t16 := gq_n16 h16 f.log2
          have hT := gq_T_head b0 b16 t16 d2
          rw [d1] at hT
          have h1 := gq_cut (gq_hl f) hT.2 (gq_hb c) hT.1
          have h2 : 2 ^ f.log2 ≤ f := Nat.log2_self_le (by omega)
          have h3 := ih _ (by omega) (gq_Sp_x hf (gq_Bt F.1 t16 bs))
          rw [gq_ev_x, gq_ev_T b16 t16 hq, hz b hb] at h3
          rw [Bool.false_and, Bool.xor_false] at h3
          exact h3
    intro g hg
    refine key g (gq_Sp_self F.1 hg ?_)
    have h1 := gq_w_85 g.log2 (gq_h16 (F.1 g hg).1 (F.1 g hg).2)
    omega
  · intro hz b hb
    exact gq_Sp_ev F.1 hq hz (hB b hb).2
theorem gq_less : ∀ m, m < 16 → ∀ v, v < 4 → ¬ m &&& (15 ^^^ 2 ^ v) = m → m &&& (15 ^^^ 2 ^ v) < m ∧ (m &&& (15 ^^^ 2 ^ v)) &&& (15 ^^^ m) = 0 := by decide +kernel
theorem gq_trans : ∀ a, a < 16 → ∀ b, b < 16 → a &&& (15 ^^^ b) = 0 → ∀ c, c < 16 → b &&& (15 ^^^ c) = 0 → a &&& (15 ^^^ c) = 0 := by decide +kernel
theorem gq_refl : ∀ a, a < 16 → a &&& (15 ^^^ a) = 0 := by decide +kernel
/-- a least bound monomial -/
def gq_lb (Bd : Nat → Prop) (m : Nat) : Prop := Bd m ∧ ∀ v, v < 4 → ¬ m &&& (15 ^^^ 2 ^ v) = m → ¬ Bd (m &&& (15 ^^^ 2 ^ v))
theorem gq_least {Bd : Nat → Prop} : ∀ m, m < 16 → Bd m → ∃ n, n < 16 ∧ n &&& (15 ^^^ m) = 0 ∧ gq_lb Bd n := by
  intro m
  induction m using Nat.strongRecOn with
  | _ m ih =>
    intro hm hb
    by_cases c : ∃ v, v < 4 ∧ ¬ m &&& (15 ^^^ 2 ^ v) = m ∧ Bd (m &&& (15 ^^^ 2 ^ v))
    · obtain ⟨v, hv, h1, h2⟩ := c
      obtain ⟨l1, l2⟩ := gq_less m hm v hv h1
      obtain ⟨n, n1, n2, n3⟩ := ih _ l1 (by omega) h2
      exact ⟨n, n1, gq_trans n n1 _ (by omega) n2 m hm l2, n3⟩
    · exact ⟨m, hm, gq_refl m hm, hb, fun v hv h1 h2 => c ⟨v, hv, h1, h2⟩⟩
/-! at most 16 different heads -/
theorem gq_pig : ∀ (k n : Nat) (f : Nat → Nat), (∀ i, i < n → f i < k) → (∀ i j, i < j → j < n → f i ≠ f j) → n ≤ k
  | 0, n, f, h1, _ => by
    rcases Nat.eq_zero_or_pos n with c | c
    · omega
    · exact absurd (h1 0 c) (by omega)
  | k + 1, n, f, h1, h2 => by
    by_cases c : ∃ i, i < n ∧ f i = k
    · obtain ⟨i, hi, ei⟩ := c
      have h : n - 1 ≤ k := by
        refine gq_pig k (n - 1) (fun j => if j < i then f j else f (j + 1)) (fun j hj => ?_) (fun a b hab hb => ?_)
        · show (if j < i then f j else f (j + 1)) < k
          by_cases e : j < i
          · rw [if_pos e]
            have := h1 j (by omega)
            have := h2 j i e hi
            omega
          · rw [if_neg e]
            have := h1 (j + 1) (by omega)
            have := h2 i (j + 1) (by omega) (by omega)
            omega
        · show (if a < i then f a else f (a + 1)) ≠ (if b < i then f b else f (b + 1))
          by_cases ea : a < i
          · rw [if_pos ea]
            by_cases eb : b < i
            · rw [if_pos eb]; exact h2 a b hab (by omega)
            · rw [if_neg eb]; exact h2 a (b + 1) (by omega) (by omega)
          · rw [if_neg ea, if_neg (show ¬ b < i by omega)]
            exact h2 (a + 1) (b + 1) (by omega) (by omega)
      omega
    · have h := gq_pig k n f (fun i hi => by
        have h3 := h1 i hi
        have h4 : f i ≠ k := fun e => c ⟨i, hi, e⟩
        omega) h2
      omega
end
section
/-! ===== Int32 and naturals, bit by bit ===== -/
def gw_b (b : Bool) : Int32 := if b = true then 1 else 0
theorem gw_sl : ∀ n, n < 32 → ((nI n &&& 31).toBitVec.smod 32).toNat = n := by decide +kernel
theorem gw_b0 (b : Bool) : gw_b b = 0 ↔ b = false := by cases b <;> decide
theorem gw_b1 (b : Bool) : gw_b b = 1 ↔ b = true := by cases b <;> decide
theorem gw_bx (a b : Bool) : gw_b a ^^^ gw_b b = gw_b (a ^^ b) := by cases a <;> cases b <;> decide
theorem gw_bb {a b : Bool} (h : a = true ↔ b = true) : gw_b a = gw_b b := by
  cases a <;> cases b
  · rfl
  · exact absurd (h.mpr rfl) (by decide)
  · exact absurd (h.mp rfl) (by decide)
  · rfl
theorem gw_nt {b : Bool} (h : ¬ b = false) : b = true := by
  cases b
  · exact absurd rfl h
  · rfl
theorem gw_nf {b : Bool} (h : ¬ b = true) : b = false := by
  cases b
  · rfl
  · exact absurd rfl h
theorem gw_bit {f i : Nat} (hf : f < 2 ^ 31) (hi : i < 32) : (nI f >>> (nI i &&& 31)) &&& 1 = gw_b (f.testBit i) := by
  have h1 : f / 2 ^ i ≤ f := Nat.div_le_self _ _
  rw [pk_shrN hf _ i (gw_sl i hi), pk_andN (by omega) 1 (by decide), Nat.testBit_eq_decide_div_mod_eq]
  show nI (f / 2 ^ i % 2) = gw_b (decide (f / 2 ^ i % 2 = 1))
  rcases Nat.mod_two_eq_zero_or_one (f / 2 ^ i) with e | e
  · rw [e]; decide
  · rw [e]; decide
theorem gw_bit0 {f i : Nat} (hf : f < 2 ^ 31) (hi : i < 32) : (nI f >>> (nI i &&& 31)) &&& 1 = 0 ↔ f.testBit i = false := by rw [gw_bit hf hi, gw_b0]
theorem gw_bit1 {f i : Nat} (hf : f < 2 ^ 31) (hi : i < 32) : (nI f >>> (nI i &&& 31)) &&& 1 = 1 ↔ f.testBit i = true := by rw [gw_bit hf hi, gw_b1]
theorem gw_shl : ∀ i, i < 31 → (1 : Int32) <<< (nI i &&& 31) = nI (2 ^ i) := by decide +kernel
theorem gw_or (a b : Nat) : nI a ||| nI b = nI (a ||| b) := by
  apply Int32.toBitVec_inj.1
  show BitVec.ofNat 32 a ||| BitVec.ofNat 32 b = BitVec.ofNat 32 (a ||| b)
  apply BitVec.eq_of_getLsbD_eq
  intro i hi
  simp [hi]
theorem gw_and (a b : Nat) : nI a &&& nI b = nI (a &&& b) := by
  apply Int32.toBitVec_inj.1
  show BitVec.ofNat 32 a &&& BitVec.ofNat 32 b = BitVec.ofNat 32 (a &&& b)
  apply BitVec.eq_of_getLsbD_eq
  intro i hi
  simp [hi]
theorem gw_xor (a b : Nat) : nI a ^^^ nI b = nI (a ^^^ b) := by
  apply Int32.toBitVec_inj.1
  show BitVec.ofNat 32 a ^^^ BitVec.ofNat 32 b = BitVec.ofNat 32 (a ^^^ b)
  apply BitVec.eq_of_getLsbD_eq
  intro i hi
  simp [hi]
theorem gw_an : ∀ a, a < 16 → ∀ b, b < 16 → nI a &&& (nI b ^^^ (-1)) = nI (a &&& (15 ^^^ b)) := by decide +kernel
theorem gw_an0 {a b : Nat} (ha : a < 16) (hb : b < 16) : nI a &&& (nI b ^^^ (-1)) = 0 ↔ a &&& (15 ^^^ b) = 0 := by
  have h := gq_n16 hb a
  rw [gw_an a ha b hb, ← nI_0, nI_eq (by omega) (by omega)]
theorem gw_by : ∀ h, h < 16 → (nI h).toInt8.toInt32 = nI h := by decide +kernel
/-! masks built bit by bit -/
def gw_M (Z : Nat → Prop) (i z : Nat) : Prop := z < 2 ^ i ∧ ∀ p, p < i → (z.testBit p = true ↔ Z p)
theorem gw_M_0 {Z : Nat → Prop} : gw_M Z 0 0 := ⟨by decide, fun p h => absurd h (by omega)⟩
theorem gw_M_n {Z : Nat → Prop} {i z : Nat} (h : gw_M Z i z) (hz : ¬ Z i) : gw_M Z (i + 1) z := by
  refine ⟨Nat.lt_trans h.1 (gq_pw i), fun p hp => ?_⟩
  by_cases e : p = i
  · rw [e, Nat.testBit_lt_two_pow h.1]
    exact ⟨fun z => absurd z (by decide), fun z => absurd z hz⟩
  · exact h.2 p (by omega)
theorem gw_M_y {Z : Nat → Prop} {i z : Nat} (h : gw_M Z i z) (hz : Z i) : gw_M Z (i + 1) (z ||| 2 ^ i) := by
  refine ⟨Nat.or_lt_two_pow (Nat.lt_trans h.1 (gq_pw i)) (gq_pw i), fun p hp => ?_⟩
  rw [Nat.testBit_or]
  by_cases e : p = i
  · rw [e, gq_tp, Bool.or_true]
    exact ⟨fun _ => hz, fun _ => rfl⟩
  · rw [Nat.testBit_two_pow_of_ne (fun x => e x.symm), Bool.or_false]
    exact h.2 p (by omega)
theorem gw_M_u {Z : Nat → Prop} {i z z' : Nat} (h : gw_M Z i z) (h' : gw_M Z i z') : z = z' := by
  refine Nat.eq_of_testBit_eq (fun p => ?_)
  rcases Nat.lt_or_ge p i with c | c
  · rw [Bool.eq_iff_iff, h.2 p c, h'.2 p c]
  · rw [Nat.testBit_lt_two_pow (Nat.lt_of_lt_of_le h.1 (Nat.pow_le_pow_right (by omega) c)), Nat.testBit_lt_two_pow (Nat.lt_of_lt_of_le h'.1 (Nat.pow_le_pow_right (by omega) c))]
theorem gw_M_c {Z Z' : Nat → Prop} {i z : Nat} (h : gw_M Z i z) (e : ∀ p, p < i → (Z p ↔ Z' p)) : gw_M Z' i z := ⟨h.1, fun p hp => (h.2 p hp).trans (e p hp)⟩
/-! ===== methods without a state ===== -/
theorem gw_ts1 {f t n : Nat} (h : f.testBit n = true) : gq_ts f t (n + 1) = gq_ts f t n ^^^ 2 ^ (n ||| t) := if_pos h
theorem gw_ts0 {f t n : Nat} (h : f.testBit n = false) : gq_ts f t (n + 1) = gq_ts f t n := if_neg (by rw [h]; decide)
theorem gw_times {post : Int32 → Prop} {f t : Nat} (hf : f < 65536) (ht : t < 16) (H : post (nI (gq_T f t))) : wpX_times post () (nI f) (nI t) := by
  refine pk_loop (fun n i s => wX_times_4 post (nI f) (nI t) n s (nI i)) (fun i s => s = nI (gq_ts f t i)) 16 0 0 (by omega) rfl (fun n s h => ?_) (fun n i s hi h hw => ?_)
  · try dsimp only at h ⊢
    refine pk_le 16 16 (fun _ => ?_) (fun z => absurd z (by omega))
    rw [h]; exact H
  · try dsimp only at h hw ⊢
    refine pk_le 16 i (fun z => absurd z (by omega)) (fun _ => ?_)
    refine ek_if (gw_bit0 (by omega) (by omega)) (fun c => nm_r (nI_1 i) (hw s ?_)) (fun c => nm_r (e' := nI (gq_ts f t (i + 1))) ?_ (nm_r (nI_1 i) (hw _ rfl)))
    · rw [gw_ts0 c]; exact h
    · have h16 := gq_or16 hi ht
      rw [h, gw_or, gw_shl _ (by omega), gw_xor, gw_ts1 (gw_nt c)]
theorem gw_es1 {f p n : Nat} (h : n &&& (15 ^^^ p) = 0) : gq_es f p (n + 1) = (gq_es f p n ^^ f.testBit n) := if_pos h
theorem gw_es0 {f p n : Nat} (h : ¬ n &&& (15 ^^^ p) = 0) : gq_es f p (n + 1) = gq_es f p n := if_neg h
theorem gw_valueAt {post : Int32 → Prop} {f p : Nat} (hf : f < 65536) (hp : p < 16) (H : post (gw_b (gq_ev f p))) : wpX_valueAt post () (nI f) (nI p) := by
  refine pk_loop (fun n i s => wX_valueAt_4 post (nI f) (nI p) n s (nI i)) (fun i s => s = gw_b (gq_es f p i)) 16 0 0 (by omega) rfl (fun n s h => ?_) (fun n i s hi h hw => ?_)
  · try dsimp only at h ⊢
    refine pk_le 16 16 (fun _ => ?_) (fun z => absurd z (by omega))
    rw [h]; exact H
  · try dsimp only at h hw ⊢
    refine pk_le 16 i (fun z => absurd z (by omega)) (fun _ => ?_)
    refine ek_if (gw_an0 hi hp) (fun c => nm_r (e' := gw_b (gq_es f p (i + 1))) ?_ (nm_r (nI_1 i) (hw _ rfl))) (fun c => nm_r (nI_1 i) (hw s ?_))
    · rw [h, gw_bit (by omega) (by omega), gw_bx, gw_es1 c]
    · rw [gw_es0 c]; exact h
theorem gw_value {post : Int32 → Prop} {f p : Nat} (hf : f < 65536) (hp : p < 16) (H : post (gw_b (gq_ev f p))) : wpL_value post () (nI f) (nI p) := by
  refine pk_loop (fun n i s => wL_value_4 post (nI f) (nI p) n s (nI i)) (fun i s => s = gw_b (gq_es f p i)) 16 0 0 (by omega) rfl (fun n s h => ?_) (fun n i s hi h hw => ?_)
  · try dsimp only at h ⊢
    refine pk_le 16 16 (fun _ => ?_) (fun z => absurd z (by omega))
    rw [h]; exact H
  · try dsimp only at h hw ⊢
    refine pk_le 16 i (fun z => absurd z (by omega)) (fun _ => ?_)
    refine ek_if (gw_an0 hi hp) (fun c => nm_r (e' := gw_b (gq_es f p (i + 1))) ?_ (nm_r (nI_1 i) (hw _ rfl))) (fun c => nm_r (nI_1 i) (hw s ?_))
    · rw [h, gw_bit (by omega) (by omega), gw_bx, gw_es1 c]
    · rw [gw_es0 c]; exact h
theorem gw_headOf {post : Int32 → Prop} {f : Nat} (h0 : 0 < f) (hf : f < 65536) (H : post (nI f.log2)) : wpX_headOf post () (nI f) := by
  refine pk_loop (fun n i s => wX_headOf_4 post (nI f) n s (nI i)) (fun i s => f.log2 < i → s = nI f.log2) 16 0 (-1) (by omega) (fun h => absurd h (by omega)) (fun n s h => ?_) (fun n i s hi h hw => ?_)
  · try dsimp only at h ⊢
    refine pk_le 16 16 (fun _ => ?_) (fun z => absurd z (by omega))
    rw [h (gq_h16 h0 hf)]; exact H
  · try dsimp only at h hw ⊢
    refine pk_le 16 i (fun z => absurd z (by omega)) (fun _ => ?_)
    refine ek_if (gw_bit0 (by omega) (by omega)) (fun c => nm_r (nI_1 i) (hw s (fun z => ?_))) (fun c => nm_r (nI_1 i) (hw _ (fun z => ?_)))
    · by_cases e : f.log2 = i
      · rw [← e, gq_hb h0] at c
        exact absurd c (by decide)
      · exact h (by omega)
    · have h1 := gq_bit_lt (gq_hl f) (gw_nt c)
      rw [show f.log2 = i by omega]
theorem gw_isP {post : Int32 → Prop} {f : Nat} (hf : f < 65536) (H : post 1) : wpX_isPolynomial post () (nI f) := by
  refine br_f (nI_pos (by omega)) ?_
  exact pk_lt 65535 f (fun z => absurd z (by omega)) (fun _ => H)
end
section
/-! ===== the polynomials held: P j for j < n ===== -/
def gw_P (P : Nat → Nat) (n : Nat) (a2 a3 : Nat → Int32) : Prop := n ≤ 16 ∧ (∀ j, j < n → (0 < P j ∧ P j < 65536) ∧ a2 j = nI (P j) ∧ a3 j = nI (P j).log2) ∧ (∀ i j, i < j → j < n → ¬ (P i).log2 &&& (15 ^^^ (P j).log2) = 0)
def gw_S (P : Nat → Nat) (n : Nat) : Nat → Prop := fun g => ∃ j, j < n ∧ P j = g
def gw_E (P : Nat → Nat) (n : Nat) (P' : Nat → Nat) (n' : Nat) : Prop := n ≤ n' ∧ ∀ j, j < n → P' j = P j
def gq_V (S Z : Nat → Prop) : Prop := ∀ g, S g → ∀ p, p < 16 → Z p → gq_ev g p = false
theorem gw_E_r (P : Nat → Nat) (n : Nat) : gw_E P n P n := ⟨Nat.le_refl n, fun _ _ => rfl⟩
theorem gw_E_t {P P' P2 : Nat → Nat} {n n' n2 : Nat} (h : gw_E P n P' n') (h2 : gw_E P' n' P2 n2) : gw_E P n P2 n2 :=
  ⟨Nat.le_trans h.1 h2.1, fun j hj => (h2.2 j (Nat.lt_of_lt_of_le hj h.1)).trans (h.2 j hj)⟩
theorem gw_E_s {P P' : Nat → Nat} {n n' : Nat} (h : gw_E P n P' n') : ∀ g, gw_S P n g → gw_S P' n' g :=
  fun g ⟨j, hj, e⟩ => ⟨j, Nat.lt_of_lt_of_le hj h.1, (h.2 j hj).trans e⟩
theorem gw_ok {P : Nat → Nat} {n : Nat} {a2 a3 : Nat → Int32} (h : gw_P P n a2 a3) : gq_ok (gw_S P n) := by
  intro g ⟨j, hj, e⟩
  rw [← e]
  exact (h.2.1 j hj).1
theorem gq_orv : ∀ h, h < 16 → ∀ v, v < 4 → h.testBit v = true → h ||| 2 ^ v = h := by decide +kernel
theorem gq_lo_Tv {g v : Nat} (h0 : 0 < g) (hg : g < 65536) (hv : v < 4) (hb : g.log2.testBit v = true) : gq_lo (gq_w g.log2 + gq_w (2 ^ v)) (gq_T g (2 ^ v)) := by
  intro q hq hqb
  have h16 := gq_h16 h0 hg
  have v0 := gq_w_v v hv
  obtain ⟨m, h1, h2, h3⟩ := gq_ts_b g (2 ^ v) 16 q hqb
  have h4 := gq_w_or m h1 (2 ^ v) (gq_v16 v hv)
  have h5 := gq_bit_lt (gq_hl g) h2
  rw [h3]
  by_cases e : m = g.log2
  · rw [e, gq_orv _ h16 v hv hb]; omega
  · have h6 := gq_w_lt _ h16 m (by omega)
    omega
theorem gq_or_an : ∀ h, h < 16 → ∀ j, j < 16 → h ||| ((h ||| j) &&& (15 ^^^ h)) = h ||| j ∧ ((h ||| j) &&& (15 ^^^ h)) &&& h = 0 ∧ j ||| ((h ||| j) &&& (15 ^^^ j)) = h ||| j ∧ ((h ||| j) &&& (15 ^^^ j)) &&& j = 0 := by decide +kernel
theorem gw_P0 (a2 a3 : Nat → Int32) : gw_P (fun _ => 0) 0 a2 a3 := ⟨by omega, fun j h => absurd h (by omega), fun i j _ h => absurd h (by omega)⟩
/-- one more -/
theorem gw_P1 {P P' : Nat → Nat} {n r : Nat} {a2 a3 : Nat → Int32} (h : gw_P P n a2 a3) (r0 : 0 < r) (r16 : r < 65536) (hr : ∀ g, gw_S P n g → ¬ g.log2 &&& (15 ^^^ r.log2) = 0) (en : P' n = r) (eo : ∀ j, j < n → P' j = P j) :
    gw_P P' (n + 1) (upd a2 n (nI r)) (upd a3 n (nI r.log2)) ∧ gw_E P n P' (n + 1) ∧ gw_S P' (n + 1) r ∧ (∀ g, gw_S P' (n + 1) g → gw_S P n g ∨ g = r) := by
  have h1 : ∀ j, j < n + 1 → (0 < P' j ∧ P' j < 65536) ∧ upd a2 n (nI r) j = nI (P' j) ∧ upd a3 n (nI r.log2) j = nI (P' j).log2 := by
    intro j hj
    by_cases e : j = n
    · rw [e, en, pk_us, pk_us]
      exact ⟨⟨r0, r16⟩, rfl, rfl⟩
    · rw [pk_un e, pk_un e, eo j (by omega)]
      exact h.2.1 j (by omega)
  have h2 : ∀ i j, i < j → j < n + 1 → ¬ (P' i).log2 &&& (15 ^^^ (P' j).log2) = 0 := by
    intro i j hij hj
    by_cases e : j = n
    · rw [e, en, eo i (by omega)]
      exact hr _ ⟨i, by omega, rfl⟩
    · rw [eo i (by omega), eo j (by omega)]
      exact h.2.2 i j hij (by omega)
  refine ⟨⟨?_, h1, h2⟩, ⟨by omega, eo⟩, ⟨n, by omega, en⟩, fun g ⟨j, hj, e⟩ => ?_⟩
  · refine gq_pig 16 (n + 1) (fun j => (P' j).log2) (fun j hj => gq_h16 (h1 j hj).1.1 (h1 j hj).1.2) (fun i j hij hj e => ?_)
    have e' : (P' i).log2 = (P' j).log2 := e
    have h3 := h2 i j hij hj
    rw [e'] at h3
    exact h3 (gq_refl _ (gq_h16 (h1 j hj).1.1 (h1 j hj).1.2))
  · by_cases c : j = n
    · rw [c, en] at e; exact Or.inr e.symm
    · rw [eo j (by omega)] at e; exact Or.inl ⟨j, by omega, e⟩
section
variable {pr kn bc bs zs : Int32} {a1 a2 a3 a4 : Nat → Int32} {P : Nat → Nat} {n : Nat}
theorem gw_divisor {post : Int32 → Prop} {m : Nat} (hP : gw_P P n a2 a3) (hm : m < 16) (H1 : ∀ j, j < n → (P j).log2 &&& (15 ^^^ m) = 0 → post (nI j)) (H0 : (∀ g, gw_S P n g → ¬ g.log2 &&& (15 ^^^ m) = 0) → post (-1)) : wpX_divisor post (pr, kn, nI n, bc, bs, zs, a1, a2, a3, a4) (nI m) := by
  have hn := hP.1
  refine pk_loop (σ := Unit) (fun fu i _ => wX_divisor_2 post (nI m) pr kn (nI n) bc bs zs a1 a2 a3 a4 fu (nI i)) (fun i _ => ∀ j, j < i → ¬ (P j).log2 &&& (15 ^^^ m) = 0) n 0 () (by omega) (fun j h => absurd h (by omega)) (fun fu _ h => ?_) (fun fu i _ hi h hw => ?_)
  · try dsimp only at h ⊢
    refine pk_le n n (fun _ => H0 (fun g ⟨j, hj, e⟩ => ?_)) (fun z => absurd z (by omega))
    rw [← e]; exact h j hj
  · try dsimp only at h hw ⊢
    obtain ⟨⟨p0, p1⟩, p2, p3⟩ := hP.2.1 i hi
    refine pk_le n i (fun z => absurd z (by omega)) (fun _ => ⟨pk_in i 32 (by omega), ?_⟩)
    refine ek_if (d := (P i).log2 &&& (15 ^^^ m) = 0) ?_ (fun c => H1 i hi c) (fun c => nm_r (nI_1 i) (hw () (fun j hj => ?_)))
    · rw [nI_clamp (by omega), p3]
      exact gw_an0 (gq_h16 p0 p1) hm
    · by_cases e : j = i
      · rw [e]; exact c
      · exact h j (by omega)
theorem gw_reduce {post : Int32 → Prop} {f : Nat} (hP : gw_P P n a2 a3) (hf : f < 65536) (H : ∀ r, gq_R (gw_S P n) f r → post (nI r)) : wpX_reduce post (pr, kn, nI n, bc, bs, zs, a1, a2, a3, a4) (nI f) := by
  have hn := hP.1
  have hS := gw_ok hP
  suffices key : wX_reduce_5 post pr kn (nI n) bc bs zs a1 a2 a3 a4 17 (nI f) (nI 16 + (-1)) by
    rw [show nI 16 + (-1) = 15 by decide] at key
    exact ⟨17, key⟩
  refine pk_loopD (fun fu i s => wX_reduce_5 post pr kn (nI n) bc bs zs a1 a2 a3 a4 fu s (nI i + (-1))) (fun i s => i ≤ 16 ∧ ∃ r, s = nI r ∧ gq_RI (gw_S P n) f i r) (fun fu s h => ?_) (fun fu i s h hw => ?_) 16 (nI f) ⟨Nat.le_refl _, f, rfl, gq_RI_0 hf⟩
  · try dsimp only at h ⊢
    obtain ⟨_, r, e, hr⟩ := h
    refine br_t (by decide) ?_
    rw [e]; exact H r (gq_RI_e hr)
  · try dsimp only at h hw ⊢
    obtain ⟨hi, r, e, hr⟩ := h
    show wX_reduce_5 post pr kn (nI n) bc bs zs a1 a2 a3 a4 (fu + 1) s (nI (i + 1) + (-1))
    rw [pk_m1, e]
    have r16 := hr.1
    refine br_f (nI_pos (by omega)) ?_
    refine ek_if (gw_bit0 (by omega) (by omega)) (fun c => ?_) (fun c => ?_)
    · refine br_t (by decide) (nm_e (hw (nI r) ⟨by omega, r, rfl, gq_RI_s hr (fun z => ?_)⟩))
      rw [c] at z; exact absurd z (by decide)
    · refine gw_divisor hP (by omega) (fun j hj hd => ?_) (fun hno => ?_)
      · obtain ⟨⟨p0, p1⟩, p2, p3⟩ := hP.2.1 j hj
        refine br_f (nI_pos (by omega)) ⟨pk_in j 32 (by omega), pk_in j 32 (by omega), ?_⟩
        rw [nI_clamp (by omega), p2, p3, gw_an i (by omega) _ (gq_h16 p0 p1)]
        refine gw_times p1 (gq_n16 (gq_h16 p0 p1) i) (nm_r (gw_xor _ _) (nm_e (hw _ ⟨by omega, _, rfl, ?_⟩)))
        exact gq_RI_g hS (by omega) hr (gw_nt c) ⟨j, hj, rfl⟩ hd
      · exact br_t (by decide) (nm_e (hw (nI r) ⟨by omega, r, rfl, gq_RI_s hr (fun _ => hno)⟩))
theorem gw_takeIn {post : Int32 → St1 → Prop} {Z : Nat → Prop} {f : Nat} (hP : gw_P P n a2 a3) (hV : gq_V (gw_S P n) Z) (hf : f < 65536) (hz : ∀ p, p < 16 → Z p → gq_ev f p = false)
    (H : ∀ ans P' n' a2' a3', gw_P P' n' a2' a3' → gq_V (gw_S P' n') Z → gw_E P n P' n' → (∀ K, gq_lo K f → gq_Sp (gw_S P' n') K f) → post ans (pr, kn, nI n', bc, bs, zs, a1, a2', a3', a4)) :
    wpX_takeIn post (pr, kn, nI n, bc, bs, zs, a1, a2, a3, a4) (nI f) := by
  have hn := hP.1
  have hS := gw_ok hP
  unfold wpX_takeIn
  refine gw_reduce hP hf (fun r hr => ?_)
  have r16 := hr.1
  refine pk_eq r 0 (fun e => ?_) (fun e => ?_)
  · exact H 0 P n a2 a3 hP hV (gw_E_r P n) (fun K hf => gq_take hS hr (fun _ x => x) (Or.inl e) hf)
  · have r0 : 0 < r := by omega
    refine br_t (nI_lt (b := 32) (by omega) (by decide)) ⟨pk_in n 32 (by omega), nm_e ?_⟩
    refine gw_headOf r0 r16 ⟨pk_in n 32 (by omega), nm_e (nm_r (nI_1 n) ?_)⟩
    rw [nI_clamp (by omega), gw_by _ (gq_h16 r0 r16)]
    obtain ⟨q1, q2, q3, q4⟩ := gw_P1 (P' := fun j => if j = n then r else P j) hP r0 r16 (hr.2.2 r.log2 (gq_h16 r0 r16) (gq_hb r0)) (if_pos rfl) (fun j hj => if_neg (by omega))
    refine H 1 _ (n + 1) _ _ q1 (fun g hg p hp hzp => ?_) q2 (fun K hf => gq_take (gw_ok q1) hr (gw_E_s q2) (Or.inr q3) hf)
    rcases q4 g hg with c | c
    · exact hV g c p hp hzp
    · have h1 := gq_Sp_ev hS hp (fun g hg => hV g hg p hp hzp) (hr.2.1 171 (gq_lo_171 f)).2
      rw [gq_ev_x, hz p hp hzp, Bool.false_xor] at h1
      rw [c]; exact h1
theorem gw_takeSquares {post : St1 → Prop} {Z : Nat → Prop} {x : Nat} (hP : gw_P P n a2 a3) (hV : gq_V (gw_S P n) Z) (hx : x < n)
    (H : ∀ P' n' a2' a3', gw_P P' n' a2' a3' → gq_V (gw_S P' n') Z → gw_E P n P' n' → gq_Sq (gw_S P' n') (P x) → post (pr, kn, nI n', bc, bs, zs, a1, a2', a3', a4)) :
    wpX_takeSquares post (pr, kn, nI n, bc, bs, zs, a1, a2, a3, a4) (nI x) := by
  have hn := hP.1
  refine lp4 (fun fu (i : Nat) (m : Nat) b2 b3 => wX_takeSquares_2 post (nI x) fu (nI i) pr kn (nI m) bc bs zs a1 b2 b3 a4) (fun i m b2 b3 => i ≤ 4 ∧ ∃ P', gw_P P' m b2 b3 ∧ gq_V (gw_S P' m) Z ∧ gw_E P n P' m ∧ ∀ v, v < i → (P x).log2.testBit v = true → gq_Sp (gw_S P' m) (gq_w (P x).log2 + gq_w (2 ^ v)) (gq_T (P x) (2 ^ v))) (fun i _ _ _ => 4 - i) (fun fu i m b2 b3 h hw => ?_) 0 n a2 a3 ⟨by omega, P, hP, hV, gw_E_r P n, fun v h => absurd h (by omega)⟩
  try dsimp only at h hw ⊢
  obtain ⟨hi, P', hP', hV', hE, hq⟩ := h
  have hxm : x < m := Nat.lt_of_lt_of_le hx hE.1
  have hm16 := hP'.1
  obtain ⟨⟨p0, p1⟩, p2, p3⟩ := hP'.2.1 x hxm
  have hgx : gw_S P' m (P x) := ⟨x, hxm, hE.2 x hx⟩
  rw [hE.2 x hx] at p0 p1 p2 p3
  have cl : (nI x).toNatClampNeg = x := nI_clamp (by omega)
  have h16 := gq_h16 p0 p1
  show wX_takeSquares_2 post (nI x) (fu + 1) (nI i) pr kn (nI m) bc bs zs a1 b2 b3 a4
  refine pk_le 4 i (fun z => ?_) (fun z => ⟨pk_in x 32 (by omega), ?_⟩)
  · exact H P' m b2 b3 hP' hV' hE (fun v hv => hq v (by omega))
  · refine ek_if (d := (P x).log2.testBit i = false) ?_ (fun c => nm_r (nI_1 i) (hw (i + 1) m b2 b3 ⟨by omega, P', hP', hV', hE, fun v hv hb => ?_⟩ (by omega))) (fun c => ⟨pk_in x 32 (by omega), ?_⟩)
    · rw [cl, p3]; exact gw_bit0 (by omega) (by omega)
    · by_cases e : v = i
      · rw [e, c] at hb; exact absurd hb (by decide)
      · exact hq v (by omega) hb
    · rw [cl, p2, gw_shl i (by omega)]
      refine gw_times p1 (gq_v16 i (by omega)) ⟨pk_in x 32 (by omega), ?_⟩
      rw [gw_xor]
      have t16 : gq_T (P x) (2 ^ i) < 65536 := gq_T_16 (gq_v16 i (by omega))
      refine gw_takeIn hP' hV' (gq_x64 t16 p1) (fun p hp hzp => ?_) (fun ans P2 n2 c2 c3 hP2 hV2 hE2 hs2 => ?_)
      · rw [gq_ev_x, gq_ev_T p1 (gq_v16 i (by omega)) hp, hV' _ hgx p hp hzp]; rfl
      · refine nm_r (nI_1 i) (hw (i + 1) n2 c2 c3 ⟨by omega, P2, hP2, hV2, gw_E_t hE hE2, fun v hv hb => ?_⟩ (by omega))
        by_cases e : v = i
        · have g2 := gw_E_s hE2 _ hgx
          have v0 := gq_w_v i (show i < 4 by omega)
          have l1 := gq_lo_Tv p0 p1 (show i < 4 by omega) (gw_nt c)
          have l2 := gq_lo_m (gq_lo_h p0 p1) (show gq_w (P x).log2 + 1 ≤ gq_w (P x).log2 + gq_w (2 ^ i) by omega)
          have h2 := gq_Sp_x (hs2 _ (gq_lo_x l1 l2)) (gq_Sp_self (gw_ok hP2) g2 (show gq_w (P x).log2 < gq_w (P x).log2 + gq_w (2 ^ i) by omega))
          rw [gq_xx] at h2
          rw [e]; exact h2
        · exact gq_Sp_m (hq v (by omega) hb) (gw_E_s hE2) (Nat.le_refl _)
theorem gw_takeDifference {post : St1 → Prop} {Z : Nat → Prop} {x y : Nat} (hP : gw_P P n a2 a3) (hV : gq_V (gw_S P n) Z) (hx : x < n) (hy : y < n)
    (H : ∀ P' n' a2' a3', gw_P P' n' a2' a3' → gq_V (gw_S P' n') Z → gw_E P n P' n' → gq_Pc (gw_S P' n') (P x) (P y) → post (pr, kn, nI n', bc, bs, zs, a1, a2', a3', a4)) :
    wpX_takeDifference post (pr, kn, nI n, bc, bs, zs, a1, a2, a3, a4) (nI x) (nI y) := by
  have hn := hP.1
  obtain ⟨⟨p0, p1⟩, p2, p3⟩ := hP.2.1 x hx
  obtain ⟨⟨q0, q1⟩, q2, q3⟩ := hP.2.1 y hy
  have clx : (nI x).toNatClampNeg = x := nI_clamp (by omega)
  have cly : (nI y).toNatClampNeg = y := nI_clamp (by omega)
  have hp16 := gq_h16 p0 p1
  have hq16 := gq_h16 q0 q1
  have ho := gq_or16 hp16 hq16
  unfold wpX_takeDifference
  refine ⟨pk_in x 32 (by omega), pk_in y 32 (by omega), nm_r (e' := nI ((P x).log2 ||| (P y).log2)) (by rw [clx, cly, p3, q3, gw_or]) ⟨pk_in x 32 (by omega), pk_in x 32 (by omega), ?_⟩⟩
  rw [clx, cly, p2, p3, q2, q3, gw_an _ ho _ hp16, gw_an _ ho _ hq16]
  refine gw_times p1 (gq_n16 hp16 _) ⟨pk_in y 32 (by omega), pk_in y 32 (by omega), ?_⟩
  refine gw_times q1 (gq_n16 hq16 _) ?_
  rw [gw_xor]
  have t1 := gq_n16 hp16 ((P x).log2 ||| (P y).log2)
  have t2 := gq_n16 hq16 ((P x).log2 ||| (P y).log2)
  refine gw_takeIn hP hV (gq_x64 (gq_T_16 t1) (gq_T_16 t2)) (fun p hp hzp => ?_) (fun ans P2 n2 c2 c3 hP2 hV2 hE2 hs2 => ?_)
  · rw [gq_ev_x, gq_ev_T p1 t1 hp, gq_ev_T q1 t2 hp, hV _ ⟨x, hx, rfl⟩ p hp hzp, hV _ ⟨y, hy, rfl⟩ p hp hzp]; rfl
  · refine H P2 n2 c2 c3 hP2 hV2 hE2 (hs2 _ (gq_lo_2 ho ?_))
    obtain ⟨u1, u2, u3, u4⟩ := gq_or_an _ hp16 _ hq16
    have w1 := gq_T_head p0 p1 t1 u2
    have w2 := gq_T_head q0 q1 t2 u4
    rw [u1] at w1
    rw [u3] at w2
    exact gq_cut w1.2 w2.2 w1.1 w2.1
end
end
section
/-! ===== completing: the loops ===== -/
def gw_Z (gv : Nat → Nat) (st : Nat) : Nat → Prop := fun p => ∀ i, i < 4 → st.testBit i = true → gq_ev (gv i) p = false
def gq_G (S Z : Nat → Prop) : Prop := gq_Full S ∧ ∀ p, p < 16 → (Z p ↔ ∀ g, S g → gq_ev g p = false)
theorem gq_Pc_s {S : Nat → Prop} {g g' : Nat} (h : gq_Pc S g g') : gq_Pc S g' g := by
  unfold gq_Pc at h ⊢
  rw [Nat.or_comm g'.log2 g.log2, Nat.xor_comm]
  exact h
theorem gq_Pc_r (S : Nat → Prop) (g : Nat) : gq_Pc S g g := by
  unfold gq_Pc
  rw [Nat.xor_self]
  exact gq_Sp_0
section
variable {pr kn bc bs zs : Int32} {a1 a2 a3 a4 : Nat → Int32} {P : Nat → Nat} {n : Nat}
theorem gw_c55 {post : St1 → Prop} {J : Int32 → Int32 → Int32 → Int32 → Int32 → Int32 → Int32 → (Nat → Int32) → (Nat → Int32) → (Nat → Int32) → (Nat → Int32) → Prop} {Z : Nat → Prop} {x : Nat} (hP : gw_P P n a2 a3) (hV : gq_V (gw_S P n) Z) (hx : x < n)
    (H : ∀ P' n' b2 b3, gw_P P' n' b2 b3 → gq_V (gw_S P' n') Z → gw_E P n P' n' → (∀ y, y < x → gq_Pc (gw_S P' n') (P x) (P y)) → J (nI (x + 1)) pr kn (nI n') bc bs zs a1 b2 b3 a4) :
    ∃ fu, wX_complete_55 post J (nI x) fu 0 pr kn (nI n) bc bs zs a1 a2 a3 a4 := by
  have hn := hP.1
  refine lp4 (fun fu (i : Nat) (m : Nat) b2 b3 => wX_complete_55 post J (nI x) fu (nI i) pr kn (nI m) bc bs zs a1 b2 b3 a4) (fun i m b2 b3 => i ≤ x ∧ ∃ P', gw_P P' m b2 b3 ∧ gq_V (gw_S P' m) Z ∧ gw_E P n P' m ∧ ∀ y, y < i → gq_Pc (gw_S P' m) (P x) (P y)) (fun i _ _ _ => x - i) (fun fu i m b2 b3 h hw => ?_) 0 n a2 a3 ⟨by omega, P, hP, hV, gw_E_r P n, fun v h => absurd h (by omega)⟩
  try dsimp only at h hw ⊢
  obtain ⟨hi, P', hP', hV', hE, hq⟩ := h
  have hE1 := hE.1
  have hm16 := hP'.1
  show wX_complete_55 post J (nI x) (fu + 1) (nI i) pr kn (nI m) bc bs zs a1 b2 b3 a4
  refine pk_le x i (fun z => nm_r (nI_1 x) ?_) (fun z => ?_)
  · exact H P' m b2 b3 hP' hV' hE (fun y hy => hq y (by omega))
  · refine gw_takeDifference hP' hV' (show x < m by omega) (show i < m by omega) (fun P2 n2 c2 c3 hP2 hV2 hE2 hd => ?_)
    refine nm_r (nI_1 i) (hw (i + 1) n2 c2 c3 ⟨by omega, P2, hP2, hV2, gw_E_t hE hE2, fun y hy => ?_⟩ (by omega))
    by_cases e : y = i
    · rw [hE.2 x hx, hE.2 i (by omega)] at hd
      rw [e]; exact hd
    · exact gq_Sp_m (hq y (by omega)) (gw_E_s hE2) (Nat.le_refl _)
theorem gw_c40 {post : St1 → Prop} {Z : Nat → Prop} (hP : gw_P P n a2 a3) (hV : gq_V (gw_S P n) Z)
    (H : ∀ P' n' b2 b3, gw_P P' n' b2 b3 → gq_V (gw_S P' n') Z → gw_E P n P' n' → gq_Full (gw_S P' n') → post (pr, kn, nI n', bc, bs, zs, a1, b2, b3, a4)) :
    ∃ fu, wX_complete_40 post fu 0 pr kn (nI n) bc bs zs a1 a2 a3 a4 := by
  refine lp4 (fun fu (i : Nat) (m : Nat) b2 b3 => wX_complete_40 post fu (nI i) pr kn (nI m) bc bs zs a1 b2 b3 a4) (fun i m b2 b3 => i ≤ m ∧ ∃ P', gw_P P' m b2 b3 ∧ gq_V (gw_S P' m) Z ∧ gw_E P n P' m ∧ (∀ x, x < i → gq_Sq (gw_S P' m) (P' x)) ∧ (∀ x y, y < x → x < i → gq_Pc (gw_S P' m) (P' x) (P' y))) (fun i _ _ _ => 17 - i) (fun fu i m b2 b3 h hw => ?_) 0 n a2 a3 ⟨by omega, P, hP, hV, gw_E_r P n, fun v h => absurd h (by omega), fun x y _ h => absurd h (by omega)⟩
  try dsimp only at h hw ⊢
  obtain ⟨hi, P', hP', hV', hE, hq, hd⟩ := h
  have hm16 := hP'.1
  show wX_complete_40 post (fu + 1) (nI i) pr kn (nI m) bc bs zs a1 b2 b3 a4
  refine pk_le m i (fun z => ?_) (fun z => ?_)
  · have e : i = m := by omega
    rw [e] at hq hd
    refine H P' m b2 b3 hP' hV' hE ⟨gw_ok hP', fun g ⟨j, hj, ej⟩ => ?_, fun g g' ⟨j, hj, ej⟩ ⟨j', hj', ej'⟩ => ?_⟩
    · rw [← ej]; exact hq j hj
    · rw [← ej, ← ej']
      rcases Nat.lt_trichotomy j j' with c | c | c
      · exact gq_Pc_s (hd j' j c hj')
      · rw [c]; exact gq_Pc_r _ _
      · exact hd j j' c hj
  · refine gw_takeSquares hP' hV' z (fun P2 n2 c2 c3 hP2 hV2 hE2 hsq => ?_)
    have hE21 := hE2.1
    refine gw_c55 hP2 hV2 (show i < n2 by omega) (fun P3 n3 d2 d3 hP3 hV3 hE3 hdf => ?_)
    have hE31 := hE3.1
    have hE4 := gw_E_t hE2 hE3
    refine hw (i + 1) n3 d2 d3 ⟨by omega, P3, hP3, hV3, gw_E_t hE hE4, fun x hx => ?_, fun x y hy hx => ?_⟩ (by omega)
    · rw [hE4.2 x (by omega)]
      by_cases e : x = i
      · rw [e]
        exact fun v hv hb => gq_Sp_m (hsq v hv hb) (gw_E_s hE3) (Nat.le_refl _)
      · exact fun v hv hb => gq_Sp_m (hq x (by omega) v hv hb) (gw_E_s hE4) (Nat.le_refl _)
    · by_cases e : x = i
      · rw [hE3.2 x (by omega), hE3.2 y (by omega), e]
        exact hdf y (by omega)
      · rw [hE4.2 x (by omega), hE4.2 y (by omega)]
        exact gq_Sp_m (hd x y hy (by omega)) (gw_E_s hE4) (Nat.le_refl _)
theorem gw_c7 {post : St1 → Prop} {gv : Nat → Nat} {st : Nat} (hst : st < 16) (ha : ∀ i, i < 4 → a1 i = nI (gv i) ∧ gv i < 65536)
    (H : ∀ P' n' b2 b3, gw_P P' n' b2 b3 → gq_G (gw_S P' n') (gw_Z gv st) → post (pr, kn, nI n', bc, bs, zs, a1, b2, b3, a4)) :
    ∃ fu, wX_complete_7 post (nI st) fu 0 pr kn 0 bc bs zs a1 a2 a3 a4 := by
  refine lp4 (fun fu (i : Nat) (m : Nat) b2 b3 => wX_complete_7 post (nI st) fu (nI i) pr kn (nI m) bc bs zs a1 b2 b3 a4) (fun i m b2 b3 => i ≤ 6 ∧ ∃ P', gw_P P' m b2 b3 ∧ gq_V (gw_S P' m) (gw_Z gv st) ∧ ∀ j, j < i → j < 4 → st.testBit j = true → gq_Sp (gw_S P' m) 171 (gv j)) (fun i _ _ _ => 6 - i) (fun fu i m b2 b3 h hw => ?_) 0 0 a2 a3 ⟨by omega, fun _ => 0, gw_P0 a2 a3, fun g ⟨j, hj, _⟩ => absurd hj (by omega), fun v h => absurd h (by omega)⟩
  try dsimp only at h hw ⊢
  obtain ⟨hi, P', hP', hV', hq⟩ := h
  show wX_complete_7 post (nI st) (fu + 1) (nI i) pr kn (nI m) bc bs zs a1 b2 b3 a4
  refine pk_le 6 i (fun z => ?_) (fun z => ?_)
  · refine gw_c40 hP' hV' (fun P2 n2 c2 c3 hP2 hV2 hE2 hF => H P2 n2 c2 c3 hP2 ⟨hF, fun p hp => ⟨fun hz g hg => hV2 g hg p hp hz, fun hz j hj hb => ?_⟩⟩)
    exact gq_Sp_ev hF.1 hp hz (gq_Sp_m (hq j (by omega) hj hb) (gw_E_s hE2) (Nat.le_refl _))
  · refine ek_if (gw_bit0 (by omega) (by omega)) (fun c => nm_r (nI_1 i) (hw (i + 1) m b2 b3 ⟨by omega, P', hP', hV', fun j h1 h2 h3 => ?_⟩ (by omega))) (fun c => ⟨pk_in i 6 (by omega), ?_⟩)
    · by_cases e : j = i
      · rw [e, c] at h3; exact absurd h3 (by decide)
      · exact hq j (by omega) h2 h3
    · have i4 : i < 4 := gq_bit_lt (k := 4) hst (gw_nt c)
      obtain ⟨e1, e2⟩ := ha i i4
      rw [nI_clamp (by omega), e1]
      refine gw_takeIn hP' hV' e2 (fun p hp hz => hz i i4 (gw_nt c)) (fun ans P2 n2 c2 c3 hP2 hV2 hE2 hs2 => ?_)
      refine nm_r (nI_1 i) (hw (i + 1) n2 c2 c3 ⟨by omega, P2, hP2, hV2, fun j h1 h2 h3 => ?_⟩ (by omega))
      by_cases e : j = i
      · rw [e]; exact hs2 171 (gq_lo_171 _)
      · exact gq_Sp_m (hq j (by omega) h2 h3) (gw_E_s hE2) (Nat.le_refl _)
theorem gw_complete {post : St1 → Prop} {sz : Int32} {gv : Nat → Nat} {st : Nat} (hst : st < 16) (ha : ∀ i, i < 4 → a1 i = nI (gv i) ∧ gv i < 65536)
    (H : ∀ P' n' b2 b3, gw_P P' n' b2 b3 → gq_G (gw_S P' n') (gw_Z gv st) → post (pr, kn, nI n', bc, bs, zs, a1, b2, b3, a4)) :
    wpX_complete post (pr, kn, sz, bc, bs, zs, a1, a2, a3, a4) (nI st) := gw_c7 hst ha H
/-! ===== learning ===== -/
def gw_Bd (P : Nat → Nat) (n : Nat) : Nat → Prop := fun m => ∃ g, gw_S P n g ∧ g.log2 &&& (15 ^^^ m) = 0
theorem gw_leastBound {post : Int32 → Prop} {m : Nat} (hP : gw_P P n a2 a3) (hm : m < 16) (H1 : gq_lb (gw_Bd P n) m → post 1) (H0 : ¬ gq_lb (gw_Bd P n) m → post 0) : wpX_leastBound post (pr, kn, nI n, bc, bs, zs, a1, a2, a3, a4) (nI m) := by
  have hn := hP.1
  unfold wpX_leastBound
  refine gw_divisor hP hm (fun j hj hd => ?_) (fun hno => ?_)
  · have hb : gw_Bd P n m := ⟨P j, ⟨j, hj, rfl⟩, hd⟩
    refine br_t (nI_pos' (by omega)) ?_
    refine pk_loop (σ := Unit) (fun fu i _ => wX_leastBound_12 post (nI m) pr kn (nI n) bc bs zs a1 a2 a3 a4 fu (nI i)) (fun i _ => ∀ v, v < i → ¬ m &&& (15 ^^^ 2 ^ v) = m → ¬ gw_Bd P n (m &&& (15 ^^^ 2 ^ v))) 4 0 () (by omega) (fun j h => absurd h (by omega)) (fun fu _ h => ?_) (fun fu i _ hi h hw => ?_)
    · try dsimp only at h ⊢
      exact pk_le 4 4 (fun _ => H1 ⟨hb, h⟩) (fun z => absurd z (by omega))
    · try dsimp only at h hw ⊢
      have v16 := gq_v16 i hi
      have l16 := gq_n16 v16 m
      refine pk_le 4 i (fun z => absurd z (by omega)) (fun _ => nm_r (e' := nI (m &&& (15 ^^^ 2 ^ i))) (by rw [gw_shl i (by omega), gw_an m hm _ v16]) ?_)
      refine pk_eq (m &&& (15 ^^^ 2 ^ i)) m (fun e => nm_r (nI_1 i) (hw () (fun v hv => ?_))) (fun e => ?_)
      · by_cases c : v = i
        · rw [c]; exact fun z => absurd e z
        · exact h v (by omega)
      · refine gw_divisor hP l16 (fun j hj hd => ?_) (fun hno => ?_)
        · exact br_f (nI_pos (by omega)) (H0 (fun z => z.2 i hi e ⟨P j, ⟨j, hj, rfl⟩, hd⟩))
        · refine br_t (by decide) (nm_r (nI_1 i) (hw () (fun v hv => ?_)))
          by_cases c : v = i
          · rw [c]; exact fun _ ⟨g, hg, hd⟩ => hno g hg hd
          · exact h v (by omega)
  · exact br_f (by decide) (H0 (fun ⟨⟨g, hg, hd⟩, _⟩ => hno g hg hd))
theorem gw_vanishes {post : Int32 → Prop} {sz : Int32} {B : Nat → Nat} {c p : Nat} (hc : c ≤ 16) (hB : ∀ j, j < c → a4 j = nI (B j) ∧ B j < 65536) (hp : p < 16) (H1 : (∀ j, j < c → gq_ev (B j) p = false) → post 1) (H0 : ¬ (∀ j, j < c → gq_ev (B j) p = false) → post 0) : wpX_vanishes post (pr, kn, sz, nI c, bs, zs, a1, a2, a3, a4) (nI p) := by
  refine pk_loop (σ := Unit) (fun fu i _ => wX_vanishes_2 post (nI p) pr kn sz (nI c) bs zs a1 a2 a3 a4 fu (nI i)) (fun i _ => ∀ j, j < i → gq_ev (B j) p = false) c 0 () (by omega) (fun j h => absurd h (by omega)) (fun fu _ h => ?_) (fun fu i _ hi h hw => ?_)
  · try dsimp only at h ⊢
    exact pk_le c c (fun _ => H1 h) (fun z => absurd z (by omega))
  · try dsimp only at h hw ⊢
    obtain ⟨e1, e2⟩ := hB i hi
    refine pk_le c i (fun z => absurd z (by omega)) (fun _ => ⟨pk_in i 16 (by omega), ?_⟩)
    rw [nI_clamp (by omega), e1]
    refine gw_valueAt e2 hp (ek_if (gw_b0 _) (fun d => nm_r (nI_1 i) (hw () (fun j hj => ?_))) (fun d => H0 (fun z => d (z i hi))))
    by_cases e : j = i
    · rw [e]; exact d
    · exact h j (by omega)
/-- what a learned state holds -/
def gw_Ln (Z : Nat → Prop) (sz zs : Int32) (a2 a3 : Nat → Int32) : Prop := ∃ P n z, sz = nI n ∧ zs = nI z ∧ gw_P P n a2 a3 ∧ gq_G (gw_S P n) Z ∧ gw_M Z 16 z
theorem gw_l114 {post : St1 → Prop} {Z : Nat → Prop} {B : Nat → Nat} {c : Nat} (hP : gw_P P n a2 a3) (hG : gq_G (gw_S P n) Z) (hc : c ≤ 16) (hB : ∀ j, j < c → a4 j = nI (B j) ∧ B j < 65536) (hZ : ∀ p, p < 16 → ((∀ j, j < c → gq_ev (B j) p = false) ↔ Z p))
    (H : ∀ zs', gw_Ln Z (nI n) zs' a2 a3 → post (pr, kn, nI n, nI c, bs, zs', a1, a2, a3, a4)) : ∃ fu, wX_learn_114 post pr kn (nI n) (nI c) bs a1 a2 a3 a4 fu 0 0 := by
  refine pk_loop (fun fu i s => wX_learn_114 post pr kn (nI n) (nI c) bs a1 a2 a3 a4 fu (nI i) s) (fun i s => ∃ z, s = nI z ∧ gw_M Z i z) 16 0 0 (by omega) ⟨0, rfl, gw_M_0⟩ (fun fu s h => ?_) (fun fu i s hi h hw => ?_)
  · try dsimp only at h ⊢
    obtain ⟨z, e, hz⟩ := h
    exact pk_le 16 16 (fun _ => H s ⟨P, n, z, rfl, e, hP, hG, hz⟩) (fun z => absurd z (by omega))
  · try dsimp only at h hw ⊢
    obtain ⟨z, e, hz⟩ := h
    refine pk_le 16 i (fun z => absurd z (by omega)) (fun _ => ?_)
    refine gw_vanishes hc hB hi (fun hv => ?_) (fun hv => ?_)
    · refine br_f (by decide) (nm_r (e' := nI (z ||| 2 ^ i)) (by rw [e, gw_shl i (by omega), gw_or]) (nm_r (nI_1 i) (hw _ ⟨_, rfl, gw_M_y hz ((hZ i hi).mp hv)⟩)))
    · refine br_t rfl (nm_r (e' := nI z) (by rw [e, ← nI_0, gw_or, Nat.or_zero]) (nm_r (nI_1 i) (hw _ ⟨_, rfl, gw_M_n hz (fun q => hv ((hZ i hi).mpr q))⟩)))
theorem gw_l33 {post : St1 → Prop} {Z : Nat → Prop} (hP : gw_P P n a2 a3) (hG : gq_G (gw_S P n) Z)
    (H : ∀ bc' bs' zs' a4', gw_Ln Z (nI n) zs' a2 a3 → post (pr, kn, nI n, bc', bs', zs', a1, a2, a3, a4')) : ∃ fu, wX_learn_33 post pr kn (nI n) zs fu 0 0 0 a1 a2 a3 a4 := by
  have hn := hP.1
  refine lp4 (fun fu (i : Nat) (c : Nat) (t : Int32) b4 => wX_learn_33 post pr kn (nI n) zs fu (nI i) (nI c) t a1 a2 a3 b4) (fun i c _ b4 => i ≤ 16 ∧ c ≤ i ∧ ∃ B : Nat → Nat, (∀ j, j < c → (b4 j = nI (B j) ∧ B j < 65536) ∧ gq_Sp (gw_S P n) 171 (B j)) ∧ ∀ m, m < i → gq_lb (gw_Bd P n) m → ∃ j, j < c ∧ 0 < B j ∧ (B j).log2 = m) (fun i _ _ _ => 16 - i) (fun fu i c t b4 h hw => ?_) 0 0 0 a4 ⟨by omega, by omega, fun _ => 0, fun j h => absurd h (by omega), fun j h => absurd h (by omega)⟩
  try dsimp only at h hw ⊢
  obtain ⟨hi, hci, B, hB, hl⟩ := h
  show wX_learn_33 post pr kn (nI n) zs (fu + 1) (nI i) (nI c) t a1 a2 a3 b4
  refine pk_le 16 i (fun z => ?_) (fun z => ?_)
  · have e : i = 16 := by omega
    rw [e] at hl hci
    refine gw_l114 (B := B) hP hG hci (fun j hj => (hB j hj).1) (fun p hp => ?_) (fun zs' hL => H _ _ _ _ hL)
    have hz : (∀ b, (∃ j, j < c ∧ B j = b) → gq_ev b p = false) ↔ (∀ g, gw_S P n g → gq_ev g p = false) := by
      refine gq_Z (B := fun b => ∃ j, j < c ∧ B j = b) hG.1 (fun b hb => ?_) (fun m hm hb => ?_) hp
      · obtain ⟨j, hj, ej⟩ := hb
        rw [← ej]; exact ⟨(hB j hj).1.2, (hB j hj).2⟩
      · obtain ⟨m', l1, l2, l3⟩ := gq_least (Bd := gw_Bd P n) m hm hb
        obtain ⟨j, j1, j2, j3⟩ := hl m' l1 l3
        exact ⟨B j, ⟨j, j1, rfl⟩, j2, by rw [j3]; exact l2⟩
    rw [hG.2 p hp, ← hz]
    exact ⟨fun h b ⟨j, hj, ej⟩ => by rw [← ej]; exact h j hj, fun h j hj => h _ ⟨j, hj, rfl⟩⟩
  · have main : ∀ t0 t1 : Int32, wX_learn_59 post (wX_learn_33 post pr kn (nI n) zs fu) (nI i) t0 t1 pr kn (nI n) (nI c) t zs a1 a2 a3 b4 := by
      intro t0 t1
      unfold wX_learn_59
      refine nm_e (gw_leastBound hP z (fun hb => ?_) (fun hb => ?_))
      · refine br_f (by decide) ?_
        rw [gw_shl i (by omega)]
        refine gw_reduce hP (gq_p16 z) (fun r hr => ⟨pk_in c 16 (by omega), ?_⟩)
        obtain ⟨q1, q2, q3, q4⟩ := gq_lead z hr hb.1
        rw [nI_clamp (by omega), gw_xor]
        refine nm_e (nm_r (nI_1 c) (nm_r (nI_1 i) (hw (i + 1) (c + 1) _ _ ⟨by omega, by omega, fun j => if j = c then 2 ^ i ^^^ r else B j, fun j hj => ?_, fun m hm hlb => ?_⟩ (by omega))))
        · show (upd b4 c (nI (2 ^ i ^^^ r)) j = nI (if j = c then 2 ^ i ^^^ r else B j) ∧ (if j = c then 2 ^ i ^^^ r else B j) < 65536) ∧ gq_Sp (gw_S P n) 171 (if j = c then 2 ^ i ^^^ r else B j)
          by_cases e : j = c
          · rw [if_pos e, e, pk_us]; exact ⟨⟨rfl, q1⟩, q4⟩
          · rw [if_neg e, pk_un e]; exact hB j (by omega)
        · by_cases e : m = i
          · refine ⟨c, by omega, ?_⟩
            show 0 < (if c = c then 2 ^ i ^^^ r else B c) ∧ (if c = c then 2 ^ i ^^^ r else B c).log2 = m
            rw [if_pos rfl, e]; exact ⟨q2, q3⟩
          · obtain ⟨j, j1, j2, j3⟩ := hl m (by omega) hlb
            refine ⟨j, by omega, ?_⟩
            show 0 < (if j = c then 2 ^ i ^^^ r else B j) ∧ (if j = c then 2 ^ i ^^^ r else B j).log2 = m
            rw [if_neg (by omega)]; exact ⟨j2, j3⟩
      · refine br_t rfl (nm_r (nI_1 i) (hw (i + 1) c _ b4 ⟨by omega, by omega, B, hB, fun m hm hlb => ?_⟩ (by omega)))
        by_cases e : m = i
        · rw [e] at hlb; exact absurd hlb hb
        · exact hl m (by omega) hlb
    exact gw_divisor hP z (fun j hj hd => br_f (nI_pos (by omega)) (main _ _)) (fun hno => br_t (by decide) (main _ _))
end
end
section
/-! ===== the answers ===== -/
section
variable {kn sz bc bs zs : Int32} {a1 a2 a3 a4 : Nat → Int32} {gv : Nat → Nat} {st : Nat}
theorem gw_learn {post : St1 → Prop} (hst : st < 16) (ha : ∀ i, i < 4 → a1 i = nI (gv i) ∧ gv i < 65536) (hk : kn ≠ 0 → gw_Ln (gw_Z gv st) sz zs a2 a3)
    (H : ∀ kn' sz' bc' bs' zs' a2' a3' a4', gw_Ln (gw_Z gv st) sz' zs' a2' a3' → post (nI st, kn', sz', bc', bs', zs', a1, a2', a3', a4')) :
    wpX_learn post (nI st, kn, sz, bc, bs, zs, a1, a2, a3, a4) := by
  unfold wpX_learn
  refine br_c (fun _ => ?_) (fun h => H _ _ _ _ _ _ _ _ (hk h))
  refine gw_complete hst ha (fun P n b2 b3 hP hG => ?_)
  exact gw_l33 hP hG (fun bc' bs' zs' a4' hL => H _ _ _ _ _ _ _ _ hL)
theorem gw_rest {post : Int32 → St1 → Prop} {g : Nat} (hst : st < 16) (ha : ∀ i, i < 4 → a1 i = nI (gv i) ∧ gv i < 65536) (hk : kn ≠ 0 → gw_Ln (gw_Z gv st) sz zs a2 a3) (hg : g < 65536)
    (H : ∀ r kn' sz' bc' bs' zs' a2' a3' a4', r < 65536 → (∀ p, p < 16 → gw_Z gv st p → gq_ev (g ^^^ r) p = false) → gw_Ln (gw_Z gv st) sz' zs' a2' a3' → post (nI r) (nI st, kn', sz', bc', bs', zs', a1, a2', a3', a4')) :
    wpX_rest post (nI st, kn, sz, bc, bs, zs, a1, a2, a3, a4) (nI g) := by
  unfold wpX_rest
  refine gw_isP hg (br_f (by decide) ?_)
  refine gw_learn hst ha hk (fun kn' sz' bc' bs' zs' a2' a3' a4' hL => ?_)
  have hL' := hL
  obtain ⟨P, n, z, e1, e2, hP, hG, hM⟩ := hL'
  rw [e1] at hL ⊢
  refine gw_reduce hP hg (fun r hr => H r _ _ _ _ _ _ _ _ hr.1 (fun p hp hz => ?_) hL)
  exact gq_Sp_ev hG.1.1 hp ((hG.2 p hp).mp hz) (hr.2.1 171 (gq_lo_171 _)).2
theorem gw_zerosM {post : Int32 → St1 → Prop} (hst : st < 16) (ha : ∀ i, i < 4 → a1 i = nI (gv i) ∧ gv i < 65536) (hk : kn ≠ 0 → gw_Ln (gw_Z gv st) sz zs a2 a3)
    (H : ∀ z kn' sz' bc' bs' zs' a2' a3' a4', gw_M (gw_Z gv st) 16 z → gw_Ln (gw_Z gv st) sz' zs' a2' a3' → post (nI z) (nI st, kn', sz', bc', bs', zs', a1, a2', a3', a4')) :
    wpX_zeros post (nI st, kn, sz, bc, bs, zs, a1, a2, a3, a4) := by
  unfold wpX_zeros
  refine gw_learn hst ha hk (fun kn' sz' bc' bs' zs' a2' a3' a4' hL => ?_)
  have hL' := hL
  obtain ⟨P, n, z, e1, e2, hP, hG, hM⟩ := hL'
  rw [e2] at hL ⊢
  exact H z _ _ _ _ _ _ _ _ hM hL
theorem gw_red0 {S Z : Nat → Prop} {f r : Nat} (hG : gq_G S Z) (hf : f < 65536) (hr : gq_R S f r) : r = 0 ↔ ∀ p, p < 16 → Z p → gq_ev f p = false := by
  rw [gq_R0 hG.1 hr, gq_N hG.1.1 hf]
  exact ⟨fun h p hp hz => h p hp ((hG.2 p hp).mp hz), fun h p hp hz => h p hp ((hG.2 p hp).mpr hz)⟩
theorem gw_contains {post : Int32 → St1 → Prop} {g : Nat} (hst : st < 16) (ha : ∀ i, i < 4 → a1 i = nI (gv i) ∧ gv i < 65536) (hk : kn ≠ 0 → gw_Ln (gw_Z gv st) sz zs a2 a3) (hg : g < 65536)
    (H : ∀ b kn' sz' bc' bs' zs' a2' a3' a4', (b = true ↔ ∀ p, p < 16 → gw_Z gv st p → gq_ev g p = false) → gw_Ln (gw_Z gv st) sz' zs' a2' a3' → post (gw_b b) (nI st, kn', sz', bc', bs', zs', a1, a2', a3', a4')) :
    wpX_contains post (nI st, kn, sz, bc, bs, zs, a1, a2, a3, a4) (nI g) := by
  unfold wpX_contains
  refine gw_isP hg (br_f (by decide) ?_)
  refine gw_learn hst ha hk (fun kn' sz' bc' bs' zs' a2' a3' a4' hL => ?_)
  have hL' := hL
  obtain ⟨P, n, z, e1, e2, hP, hG, hM⟩ := hL'
  rw [e1] at hL ⊢
  refine gw_reduce hP hg (fun r hr => ?_)
  have r16 := hr.1
  have h0 := gw_red0 hG hg hr
  refine pk_eq r 0 (fun e => ?_) (fun e => ?_)
  · exact H true _ _ _ _ _ _ _ _ ⟨fun _ => h0.mp e, fun _ => rfl⟩ hL
  · exact H false _ _ _ _ _ _ _ _ ⟨fun z => absurd z (by decide), fun z => absurd (h0.mpr z) e⟩ hL
theorem gw_valueM {post : Int32 → Prop} {u : St1} {g p : Nat} (hg : g < 65536) (hp : p < 16) (H : post (gw_b (gq_ev g p))) : wpX_value post u (nI g) (nI p) := by
  obtain ⟨u1, u2, u3, u4, u5, u6, u7, u8, u9, u10⟩ := u
  unfold wpX_value
  refine gw_isP hg (br_f (by decide) (br_f (nI_pos (by omega)) ?_))
  exact pk_le 16 p (fun z => absurd z (by omega)) (fun _ => gw_valueAt hg hp H)
theorem gw_has {post : Int32 → Prop} {i : Nat} (hst : st < 16) (hi : i < 6) (H1 : st.testBit i = true → post 1) (H0 : st.testBit i = false → post 0) : wpX_has post (nI st, kn, sz, bc, bs, zs, a1, a2, a3, a4) (nI i) := by
  unfold wpX_has
  refine br_f (nI_pos (by omega)) (pk_le 6 i (fun z => absurd z (by omega)) (fun _ => ?_))
  exact ek_if (gw_bit0 (by omega) (by omega)) H0 (fun c => H1 (gw_nt c))
theorem gw_redundant {post : Int32 → St1 → Prop} {i : Nat} (hst : st < 16) (ha : ∀ i, i < 4 → a1 i = nI (gv i) ∧ gv i < 65536) (hk : gw_Ln (gw_Z gv st) sz zs a2 a3) (hi : i < 4)
    (H : ∀ b kn' sz' bc' bs' zs' a2' a3' a4', (b = true ↔ (st.testBit i = true ∧ ∀ p, p < 16 → gw_Z gv (st &&& (15 ^^^ 2 ^ i)) p → gq_ev (gv i) p = false)) → (kn' ≠ 0 → gw_Ln (gw_Z gv st) sz' zs' a2' a3') → post (gw_b b) (nI st, kn', sz', bc', bs', zs', a1, a2', a3', a4')) :
    wpX_redundant post (nI st, kn, sz, bc, bs, zs, a1, a2, a3, a4) (nI i) := by
  unfold wpX_redundant
  have v16 := gq_v16 i hi
  obtain ⟨e1, e2⟩ := ha i hi
  refine gw_has hst (by omega) (fun hb => br_f (by decide) ?_) (fun hb => br_t rfl ?_)
  · rw [gw_shl i (by omega), gw_an st hst _ v16]
    refine gw_complete (gq_n16 v16 st) ha (fun P n b2 b3 hP hG => ⟨pk_in i 6 (by omega), ?_⟩)
    rw [nI_clamp (by omega), e1]
    refine gw_reduce hP e2 (fun r hr => ?_)
    have r16 := hr.1
    have h0 := gw_red0 hG e2 hr
    refine pk_eq r 0 (fun e => ?_) (fun e => ?_)
    · exact H true _ _ _ _ _ _ _ _ ⟨fun _ => ⟨hb, h0.mp e⟩, fun _ => rfl⟩ (fun z => absurd rfl z)
    · exact H false _ _ _ _ _ _ _ _ ⟨fun z => absurd z (by decide), fun z => absurd (h0.mpr z.2) e⟩ (fun z => absurd rfl z)
  · refine H false _ _ _ _ _ _ _ _ ⟨fun z => absurd z (by decide), fun z => ?_⟩ (fun _ => hk)
    rw [hb] at z; exact absurd z.1 (by decide)
theorem gw_remove {post : Int32 → St1 → Prop} {i : Nat} (hst : st < 16) (hi : i < 4)
    (H1 : st.testBit i = true → post 1 (nI (st &&& (15 ^^^ 2 ^ i)), 0, sz, bc, bs, zs, a1, a2, a3, a4)) (H0 : st.testBit i = false → post 0 (nI st, kn, sz, bc, bs, zs, a1, a2, a3, a4)) :
    wpX_remove post (nI st, kn, sz, bc, bs, zs, a1, a2, a3, a4) (nI i) := by
  unfold wpX_remove
  refine gw_has hst (by omega) (fun hb => br_f (by decide) ?_) (fun hb => br_t rfl (H0 hb))
  exact nm_r (by rw [gw_shl i (by omega), gw_an st hst _ (gq_v16 i hi)]) (H1 hb)
theorem gw_add {post : Int32 → St1 → Prop} {j f : Nat} (hst : st < 16) (hj : j < 4) (hf : f < 65536) (hl : ∀ i, i < j → st.testBit i = true) (hn : st.testBit j = false)
    (H : post (nI j) (nI (st ||| 2 ^ j), 0, sz, bc, bs, zs, upd a1 j (nI f), a2, a3, a4)) :
    wpX_add post (nI st, kn, sz, bc, bs, zs, a1, a2, a3, a4) (nI f) := by
  unfold wpX_add
  refine gw_isP hf (br_f (by decide) ?_)
  refine pk_loop (σ := Unit) (fun fu i _ => wX_add_11 post (nI f) (nI st) kn sz bc bs zs a1 a2 a3 a4 fu (nI i)) (fun _ _ => True) j 0 () (by omega) trivial (fun fu _ _ => ?_) (fun fu i _ hi _ hw => ?_)
  · try dsimp only at  ⊢
    refine pk_le 6 j (fun z => absurd z (by omega)) (fun _ => ?_)
    refine gw_has hst (by omega) (fun hb => ?_) (fun _ => br_t rfl ?_)
    · rw [hn] at hb; exact absurd hb (by decide)
    · refine nm_r (e' := nI (st ||| 2 ^ j)) (by rw [gw_shl j (by omega), gw_or]) ⟨pk_in j 6 (by omega), ?_⟩
      rw [nI_clamp (by omega)]
      exact nm_e H
  · try dsimp only at hw ⊢
    refine pk_le 6 i (fun z => absurd z (by omega)) (fun _ => ?_)
    refine gw_has hst (by omega) (fun hb => br_f (by decide) (nm_r (nI_1 i) (hw () trivial))) (fun hb => ?_)
    rw [hl i hi] at hb; exact absurd hb (by decide)
end
end
section
/-! ===== the law's own methods ===== -/
def gw_at (x : Int64) (i : Nat) : Int32 := ((x >>> ((16 * nI i).toInt64 &&& 63)).toInt32) &&& 65535
def gw_put (x : Int64) (j f : Nat) : Int64 := (x &&& (((65535 : Int64) <<< ((16 * nI j).toInt64 &&& 63)) ^^^ (-1))) ||| ((nI f).toInt64 <<< ((16 * nI j).toInt64 &&& 63))
theorem gw_s64 : ∀ i, i < 4 → (((16 * nI i).toInt64 &&& 63).toBitVec.smod 64).toNat = 16 * i := by decide +kernel
theorem gw_k16 : ∀ q, q < 32 → (65535 : Int32).toBitVec.getLsbD q = decide (q < 16) := by decide +kernel
theorem gw_k64 : ∀ q, q < 64 → (65535 : Int64).toBitVec.getLsbD q = decide (q < 16) := by decide +kernel
theorem gw_m64 : ∀ q, q < 64 → (-1 : Int64).toBitVec.getLsbD q = true := by decide +kernel
theorem gw_atb (x : Int64) {i q : Nat} (hi : i < 4) (hq : q < 32) : (gw_at x i).toBitVec.getLsbD q = (decide (q < 16) && x.toBitVec.getLsbD (16 * i + q)) := by
  unfold gw_at
  rw [Int32.toBitVec_and, BitVec.getLsbD_and, gw_k16 q hq, Int64.toBitVec_toInt32, BitVec.getLsbD_signExtend, Int64.toBitVec_shiftRight]
  show ((decide (q < 32) && if q < 64 then (x.toBitVec.sshiftRight (((16 * nI i).toInt64 &&& 63).toBitVec.smod 64).toNat).getLsbD q else _) && decide (q < 16)) = _
  rw [gw_s64 i hi, if_pos (by omega), BitVec.getLsbD_sshiftRight, decide_eq_true hq, Bool.true_and, Bool.and_comm]
  by_cases c : q < 16
  · rw [if_pos (by omega), decide_eq_false (show ¬ 64 ≤ q by omega)]
    rfl
  · rw [decide_eq_false c, Bool.false_and, Bool.false_and]
theorem gw_putb (x : Int64) {j f m : Nat} (hj : j < 4) (hf : f < 65536) (hm : m < 64) : (gw_put x j f).toBitVec.getLsbD m = ((x.toBitVec.getLsbD m && !(!decide (m < 16 * j) && decide (m - 16 * j < 16))) || (!decide (m < 16 * j) && f.testBit (m - 16 * j))) := by
  unfold gw_put
  rw [nI_l (by omega), Int64.toBitVec_or, BitVec.getLsbD_or, Int64.toBitVec_and, BitVec.getLsbD_and, Int64.toBitVec_xor, BitVec.getLsbD_xor, gw_m64 m hm, Int64.toBitVec_shiftLeft, Int64.toBitVec_shiftLeft, BitVec.getLsbD_shiftLeft', BitVec.getLsbD_shiftLeft', gw_s64 j hj, gw_k64 _ (by omega), decide_eq_true hm]
  show (x.toBitVec.getLsbD m && (true && !decide (m < 16 * j) && decide (m - 16 * j < 16) ^^ true) || true && !decide (m < 16 * j) && (BitVec.ofNat 64 f).getLsbD (m - 16 * j)) = _
  rw [BitVec.getLsbD_ofNat, decide_eq_true (show m - 16 * j < 64 by omega)]
  cases x.toBitVec.getLsbD m <;> cases decide (m < 16 * j) <;> cases decide (m - 16 * j < 16) <;> cases f.testBit (m - 16 * j) <;> rfl
theorem gw_nIb {f q : Nat} (hq : q < 32) : (nI f).toBitVec.getLsbD q = f.testBit q := by
  show (BitVec.ofNat 32 f).getLsbD q = _
  rw [BitVec.getLsbD_ofNat, decide_eq_true hq, Bool.true_and]
theorem gw_hi16 {f q : Nat} (hf : f < 65536) (hq : 16 ≤ q) : f.testBit q = false := Nat.testBit_lt_two_pow (Nat.lt_of_lt_of_le (show f < 2 ^ 16 from hf) (Nat.pow_le_pow_right (by omega) hq))
theorem gw_at_put (x : Int64) {i j f : Nat} (hi : i < 4) (hj : j < 4) (hf : f < 65536) : gw_at (gw_put x j f) i = if i = j then nI f else gw_at x i := by
  apply Int32.toBitVec_inj.1
  apply BitVec.eq_of_getLsbD_eq
  intro q hq
  rw [gw_atb _ hi hq]
  by_cases c : q < 16
  · rw [gw_putb x hj hf (show 16 * i + q < 64 by omega), decide_eq_true c]
    by_cases e : i = j
    · rw [if_pos e, gw_nIb hq, e, decide_eq_false (show ¬ 16 * j + q < 16 * j by omega), show 16 * j + q - 16 * j = q by omega, decide_eq_true c]
      cases x.toBitVec.getLsbD (16 * j + q) <;> cases f.testBit q <;> rfl
    · rw [if_neg e, gw_atb x hi hq, decide_eq_true c]
      by_cases d : 16 * i + q < 16 * j
      · rw [decide_eq_true d]
        cases x.toBitVec.getLsbD (16 * i + q) <;> rfl
      · rw [decide_eq_false d, gw_hi16 hf (show 16 ≤ 16 * i + q - 16 * j by omega), decide_eq_false (show ¬ 16 * i + q - 16 * j < 16 by omega)]
        cases x.toBitVec.getLsbD (16 * i + q) <;> rfl
  · rw [decide_eq_false c, Bool.false_and]
    by_cases e : i = j
    · rw [if_pos e, gw_nIb hq, gw_hi16 hf (show 16 ≤ q by omega)]
    · rw [if_neg e, gw_atb x hi hq, decide_eq_false c, Bool.false_and]
theorem gw_at_0 : ∀ i, i < 4 → gw_at 0 i = nI 0 := by decide +kernel
theorem gw_atL {post : Int32 → Prop} {x : Int64} {i g : Nat} (e : gw_at x i = nI g) (H : post (nI g)) : wpL_at post () x (nI i) := by
  show post (gw_at x i)
  rw [e]; exact H
theorem gw_z18 {post : Int32 → Prop} {J : Int32 → Int32 → Prop} {x2 : Int64} {gv : Nat → Nat} {th p z : Nat} (hth : th < 16) (hr : ∀ i, i < 4 → gw_at x2 i = nI (gv i) ∧ gv i < 65536) (hp : p < 16) (H1 : gw_Z gv th p → J (nI (z ||| 2 ^ p)) (nI (p + 1))) (H0 : ¬ gw_Z gv th p → J (nI z) (nI (p + 1))) :
    ∃ fu, wL_zeros_18 post J x2 (nI th) (nI z) (nI p) fu 1 0 := by
  refine pk_loop (fun fu i s => wL_zeros_18 post J x2 (nI th) (nI z) (nI p) fu s (nI i)) (fun i s => ∃ b, s = gw_b b ∧ (b = true ↔ ∀ j, j < i → th.testBit j = true → gq_ev (gv j) p = false)) 4 0 1 (by omega) ⟨true, rfl, fun _ j h => absurd h (by omega), fun _ => rfl⟩ (fun fu s h => ?_) (fun fu i s hi h hw => ?_)
  · try dsimp only at h ⊢
    obtain ⟨b, e, hb⟩ := h
    subst e
    refine pk_le 4 4 (fun _ => ek_if (gw_b0 b) (fun c => nm_r (nI_1 p) (H0 (fun z => ?_))) (fun c => nm_r (by rw [gw_shl p (by omega), gw_or]) (nm_r (nI_1 p) (H1 (hb.mp (gw_nt c)))))) (fun z => absurd z (by omega))
    rw [hb.mpr z] at c; exact absurd c (by decide)
  · try dsimp only at h hw ⊢
    obtain ⟨b, e, hb⟩ := h
    subst e
    obtain ⟨r1, r2⟩ := hr i hi
    refine pk_le 4 i (fun z => absurd z (by omega)) (fun _ => ek_if (gw_b0 b) (fun c => nm_r (nI_1 i) (hw 0 ⟨false, rfl, fun z => absurd z (by decide), fun z => ?_⟩)) (fun c => ?_))
    · rw [hb.mpr (fun j hj => z j (by omega))] at c; exact absurd c (by decide)
    · have hb' := hb.mp (gw_nt c)
      refine ek_if (gw_bit0 (by omega) (by omega)) (fun d => nm_r (nI_1 i) (hw 1 ⟨true, rfl, fun _ j hj hjb => ?_, fun _ => rfl⟩)) (fun d => ?_)
      · by_cases e : j = i
        · rw [e, d] at hjb; exact absurd hjb (by decide)
        · exact hb' j (by omega) hjb
      · refine gw_atL r1 (gw_value r2 hp (ek_if (gw_b0 _) (fun g => nm_r (nI_1 i) (hw 1 ⟨true, rfl, fun _ j hj hjb => ?_, fun _ => rfl⟩)) (fun g => nm_r (nI_1 i) (hw 0 ⟨false, rfl, fun z => absurd z (by decide), fun z => absurd (z i (Nat.lt_succ_self i) (gw_nt d)) g⟩))))
        by_cases e : j = i
        · rw [e]; exact g
        · exact hb' j (by omega) hjb
theorem gw_zerosL {post : Int32 → Prop} {x2 : Int64} {gv : Nat → Nat} {th : Nat} (hth : th < 16) (hr : ∀ i, i < 4 → gw_at x2 i = nI (gv i) ∧ gv i < 65536) (H : ∀ z, gw_M (gw_Z gv th) 16 z → post (nI z)) : wpL_zeros post () x2 (nI th) := by
  refine pk_loop (fun fu i s => wL_zeros_5 post x2 (nI th) fu s (nI i)) (fun i s => ∃ z, s = nI z ∧ gw_M (gw_Z gv th) i z) 16 0 0 (by omega) ⟨0, rfl, gw_M_0⟩ (fun fu s h => ?_) (fun fu i s hi h hw => ?_)
  · try dsimp only at h ⊢
    obtain ⟨z, e, hz⟩ := h
    subst e
    exact pk_le 16 16 (fun _ => H z hz) (fun z => absurd z (by omega))
  · try dsimp only at h hw ⊢
    obtain ⟨z, e, hz⟩ := h
    subst e
    refine pk_le 16 i (fun z => absurd z (by omega)) (fun _ => ?_)
    exact gw_z18 hth hr hi (fun q => hw _ ⟨_, rfl, gw_M_y hz q⟩) (fun q => hw _ ⟨_, rfl, gw_M_n hz q⟩)
theorem gw_vanL {post : Int32 → Prop} {f z : Nat} (hf : f < 65536) (hz : z < 65536) (H : ∀ b : Bool, (b = true ↔ ∀ p, p < 16 → z.testBit p = true → gq_ev f p = false) → post (gw_b b)) : wpL_vanishes post () (nI f) (nI z) := by
  refine pk_loop (fun fu i s => wL_vanishes_4 post (nI f) (nI z) fu s (nI i)) (fun i s => ∃ b, s = gw_b b ∧ (b = true ↔ ∀ j, j < i → z.testBit j = true → gq_ev f j = false)) 16 0 1 (by omega) ⟨true, rfl, fun _ j h => absurd h (by omega), fun _ => rfl⟩ (fun fu s h => ?_) (fun fu i s hi h hw => ?_)
  · try dsimp only at h ⊢
    obtain ⟨b, e, hb⟩ := h
    subst e
    refine pk_le 16 16 (fun _ => ⟨?_, H b hb⟩) (fun z => absurd z (by omega))
    cases b <;> rfl
  · try dsimp only at h hw ⊢
    obtain ⟨b, e, hb⟩ := h
    subst e
    refine pk_le 16 i (fun z => absurd z (by omega)) (fun _ => ek_if (gw_b0 b) (fun c => nm_r (nI_1 i) (hw 0 ⟨false, rfl, fun z => absurd z (by decide), fun z => ?_⟩)) (fun c => ?_))
    · rw [hb.mpr (fun j hj => z j (by omega))] at c; exact absurd c (by decide)
    · have hb' := hb.mp (gw_nt c)
      refine ek_if (gw_bit0 (by omega) (by omega)) (fun d => nm_r (nI_1 i) (hw 1 ⟨true, rfl, fun _ j hj hjb => ?_, fun _ => rfl⟩)) (fun d => ?_)
      · by_cases e : j = i
        · rw [e, d] at hjb; exact absurd hjb (by decide)
        · exact hb' j (by omega) hjb
      · refine gw_value hf hi (ek_if (gw_b0 _) (fun g => nm_r (nI_1 i) (hw 1 ⟨true, rfl, fun _ j hj hjb => ?_, fun _ => rfl⟩)) (fun g => nm_r (nI_1 i) (hw 0 ⟨false, rfl, fun z => absurd z (by decide), fun z => absurd (z i (Nat.lt_succ_self i) (gw_nt d)) g⟩)))
        by_cases e : j = i
        · rw [e]; exact g
        · exact hb' j (by omega) hjb
theorem gw_Mq {Z : Nat → Prop} {z f : Nat} (h : gw_M Z 16 z) : (∀ p, p < 16 → Z p → gq_ev f p = false) ↔ (∀ p, p < 16 → z.testBit p = true → gq_ev f p = false) :=
  ⟨fun g p hp hb => g p hp ((h.2 p hp).mp hb), fun g p hp hz => g p hp ((h.2 p hp).mpr hz)⟩
end
section
/-! ===== the law's loop ===== -/
theorem gw_off : ∀ t, t < 16 → ∀ i, i < 4 → t.testBit i = false → t &&& (15 ^^^ 2 ^ i) = t := by decide +kernel
section
variable {post : Int32 → Prop} {L : Nat} {xs : Nat → Int32} {J : Int64 → Int32 → Int32 → Int32 → Int32 → Int32 → Int32 → Int32 → Int32 → (Nat → Int32) → (Nat → Int32) → (Nat → Int32) → (Nat → Int32) → Prop} {x2 : Int64} {kc ks k th i : Nat} {kn sz bc bs zs : Int32} {a1 a2 a3 a4 : Nat → Int32} {gv : Nat → Nat}
theorem gw_l385 {z0 z1 : Int32} (e : z1 = z0) (H : J x2 (nI th) (nI (k + 2)) (nI th) kn sz bc bs zs a1 a2 a3 a4) : wL_law_385 post L xs J x2 (nI th) (nI k) z0 z1 kc ks (nI th) kn sz bc bs zs a1 a2 a3 a4 := by
  unfold wL_law_385 wpX_generators
  exact br_t e (br_t rfl (nm_r (nI_add k 2) H))
theorem gw_l282 {z g p r : Nat} {z0 : Int32} (hth : th < 16) (hi : i < 4) (hr : ∀ i, i < 4 → gw_at x2 i = nI (gv i) ∧ gv i < 65536) (ha : ∀ i, i < 4 → a1 i = nI (gv i) ∧ gv i < 65536) (hL : gw_Ln (gw_Z gv th) sz zs a2 a3)
    (hz : gw_M (gw_Z gv th) 16 z) (hg : g < 65536) (hp : p < 16) (r16 : r < 65536) (hv : ∀ p, p < 16 → gw_Z gv th p → gq_ev (g ^^^ r) p = false) (e0 : z0 = gw_b (th.testBit i))
    (H : ∀ kn' sz' bc' bs' zs' a2' a3' a4', (kn' ≠ 0 → gw_Ln (gw_Z gv th) sz' zs' a2' a3') → J x2 (nI th) (nI (k + 2)) (nI th) kn' sz' bc' bs' zs' a1 a2' a3' a4') :
    wL_law_282 post L xs J x2 (nI th) (nI k) (nI i) (nI z) (nI g) (nI p) (nI r) z0 kc ks (nI th) kn sz bc bs zs a1 a2 a3 a4 := by
  have v16 := gq_v16 i hi
  unfold wL_law_282
  rw [gw_shl i (by omega), gw_an th hth _ v16]
  refine gw_zerosL (gq_n16 v16 th) hr (fun zo hzo => ?_)
  refine gw_zerosM hth ha (fun _ => hL) (fun z' kn1 sz1 bc1 bs1 zs1 b2 b3 b4 hM1 hL1 => ?_)
  have ez := gw_M_u hM1 hz
  subst ez
  refine br_t rfl (gw_valueM hg hp (gw_value hg hp (br_t rfl ?_)))
  refine gw_contains hth ha (fun _ => hL1) hg (fun b kn2 sz2 bc2 bs2 zs2 c2 c3 c4 hb hL2 => ?_)
  refine gw_vanL hg hz.1 (fun b' hb' => br_t (gw_bb (hb.trans ((gw_Mq hz).trans hb'.symm))) ?_)
  rw [gw_xor]
  refine gw_vanL (gq_x64 hg r16) hz.1 (fun bv hbv => br_f ?_ ?_)
  · rw [gw_b0, hbv.mpr ((gw_Mq hz).mp hv)]; decide
  · refine gw_redundant hth ha hL2 hi (fun bd kn3 sz3 bc3 bs3 zs3 d2 d3 d4 hbd hk3 => ?_)
    have HJ := H kn3 sz3 bc3 bs3 zs3 d2 d3 d4 hk3
    subst e0
    refine ek_if (gw_b0 _) (fun c => ?_) (fun c => ?_)
    · refine gw_l385 ((gw_b0 _).mpr (gw_nf (fun q => ?_))) HJ
      rw [(hbd.mp q).1] at c; exact absurd c (by decide)
    · obtain ⟨r1, r2⟩ := hr i hi
      refine gw_atL r1 (gw_vanL r2 hzo.1 (fun bw hbw => ek_if (gw_b0 _) (fun d => ?_) (fun d => ?_)))
      · refine gw_l385 ((gw_b0 _).mpr (gw_nf (fun q => ?_))) HJ
        rw [hbw.mpr ((gw_Mq hzo).mp (hbd.mp q).2)] at d; exact absurd d (by decide)
      · exact gw_l385 ((gw_b1 _).mpr (hbd.mpr ⟨gw_nt c, (gw_Mq hzo).mpr (hbw.mp (gw_nt d))⟩)) HJ
theorem gw_l225 (hth : th < 16) (hi : i < 4) (hLL : L ≤ 260) (hk : k + 1 < L) (hr : ∀ i, i < 4 → gw_at x2 i = nI (gv i) ∧ gv i < 65536) (ha : ∀ i, i < 4 → a1 i = nI (gv i) ∧ gv i < 65536) (hL : kn ≠ 0 → gw_Ln (gw_Z gv th) sz zs a2 a3)
    (H : ∀ kn' sz' bc' bs' zs' a2' a3' a4', (kn' ≠ 0 → gw_Ln (gw_Z gv th) sz' zs' a2' a3') → J x2 (nI th) (nI (k + 2)) (nI th) kn' sz' bc' bs' zs' a1 a2' a3' a4') :
    wL_law_225 post L xs J x2 (nI th) (nI k) (nI i) kc ks (nI th) kn sz bc bs zs a1 a2 a3 a4 := by
  unfold wL_law_225
  refine gw_zerosL hth hr (fun z hz => ?_)
  have hin : vp_in (nI k + 1) L := pk_in (k + 1) L hk (nI_1 k)
  refine ⟨hin, fun x12 e12 => ⟨hin, fun x13 e13 => ?_⟩⟩
  obtain ⟨g, hg, eg⟩ := pk_andE (xs (nI k + 1).toNatClampNeg) (m := 65535) 16 (by decide)
  obtain ⟨p, hp, ep⟩ := pk_andE (xs (nI k + 1).toNatClampNeg >>> ((16 : Int32) &&& 31)) (m := 15) 4 (by decide)
  rw [eg] at e12
  rw [ep] at e13
  subst e12 e13
  have hg' : g < 65536 := hg
  have hp' : p < 16 := hp
  refine gw_rest hth ha hL hg' (fun r kn1 sz1 bc1 bs1 zs1 b2 b3 b4 r16 hv hL1 => ?_)
  refine ek_if (gw_bit1 (by omega) (by omega)) (fun c => ?_) (fun c => ?_)
  · exact gw_l282 hth hi hr ha hL1 hz hg' hp' r16 hv (by rw [c]; rfl) H
  · exact gw_l282 hth hi hr ha hL1 hz hg' hp' r16 hv (by rw [gw_nf c]; rfl) H
theorem gw_l183 (hth : th < 16) (hi : i < 4) (hLL : L ≤ 260) (hk : k + 1 < L) (hr : ∀ i, i < 4 → gw_at x2 i = nI (gv i) ∧ gv i < 65536) (ha : ∀ i, i < 4 → a1 i = nI (gv i) ∧ gv i < 65536) (hL : kn ≠ 0 → gw_Ln (gw_Z gv th) sz zs a2 a3)
    (H : ∀ th' kn' sz' bc' bs' zs' a2' a3' a4', th' < 16 → (kn' ≠ 0 → gw_Ln (gw_Z gv th') sz' zs' a2' a3') → J x2 (nI th') (nI (k + 2)) (nI th') kn' sz' bc' bs' zs' a1 a2' a3' a4') :
    wL_law_183 post L xs J x2 (nI th) (nI k) (nI i) kc ks (nI th) kn sz bc bs zs a1 a2 a3 a4 := by
  have v16 := gq_v16 i hi
  have e4 : nI th &&& (((1 : Int32) <<< (nI i &&& 31)) ^^^ (-1)) = nI (th &&& (15 ^^^ 2 ^ i)) := by rw [gw_shl i (by omega), gw_an th hth _ v16]
  unfold wL_law_183
  refine gw_remove hth hi (fun hb => ?_) (fun hb => ?_)
  · refine br_t ((gw_bit1 (by omega) (by omega)).mpr hb) ?_
    unfold wL_law_209
    refine br_t rfl (nm_r e4 ?_)
    exact gw_l225 (gq_n16 v16 th) hi hLL hk hr ha (fun z => absurd rfl z) (fun kn' sz' bc' bs' zs' a2' a3' a4' h => H _ kn' sz' bc' bs' zs' a2' a3' a4' (gq_n16 v16 th) h)
  · refine br_f (fun z => ?_) ?_
    · rw [(gw_bit1 (by omega) (by omega)).mp z] at hb; exact absurd hb (by decide)
    · unfold wL_law_209
      rw [gw_off th hth i hi hb] at e4
      refine br_t rfl (nm_r e4 ?_)
      exact gw_l225 hth hi hLL hk hr ha hL (fun kn' sz' bc' bs' zs' a2' a3' a4' h => H _ kn' sz' bc' bs' zs' a2' a3' a4' hth h)
theorem gw_l116 {x6 : Int32} {f j : Nat} (hth : th < 16) (hi : i < 4) (hLL : L ≤ 260) (hk : k + 1 < L) (hr : ∀ i, i < 4 → gw_at x2 i = nI (gv i) ∧ gv i < 65536) (ha : ∀ i, i < 4 → a1 i = nI (gv i) ∧ gv i < 65536) (hL : kn ≠ 0 → gw_Ln (gw_Z gv th) sz zs a2 a3)
    (hf : f < 65536) (hj : j ≤ 4) (hlt : ∀ i, i < j → th.testBit i = true) (hnj : j < 4 → th.testBit j = false)
    (H : ∀ y2 th' gv' kn' sz' bc' bs' zs' a1' a2' a3' a4', th' < 16 → (∀ i, i < 4 → gw_at y2 i = nI (gv' i) ∧ gv' i < 65536) → (∀ i, i < 4 → a1' i = nI (gv' i) ∧ gv' i < 65536) → (kn' ≠ 0 → gw_Ln (gw_Z gv' th') sz' zs' a2' a3') → J y2 (nI th') (nI (k + 2)) (nI th') kn' sz' bc' bs' zs' a1' a2' a3' a4') :
    wL_law_116 post L xs J x2 (nI th) (nI k) x6 (nI f) (nI i) (nI j) kc ks (nI th) kn sz bc bs zs a1 a2 a3 a4 := by
  have h183 : wL_law_183 post L xs J x2 (nI th) (nI k) (nI i) kc ks (nI th) kn sz bc bs zs a1 a2 a3 a4 :=
    gw_l183 hth hi hLL hk hr ha hL (fun th' kn' sz' bc' bs' zs' a2' a3' a4' h1 h2 => H x2 th' gv kn' sz' bc' bs' zs' a1 a2' a3' a4' h1 hr ha h2)
  unfold wL_law_116
  refine br_c (fun _ => h183) (fun _ => pk_le 4 j (fun _ => h183) (fun z => ?_))
  refine gw_add hth z hf hlt (hnj z) (br_t rfl ?_)
  refine nm_r (e' := gw_put x2 j f) rfl (nm_r (e' := nI (th ||| 2 ^ j)) (by rw [gw_shl j (by omega), gw_or]) ?_)
  have o16 := gq_or16 hth (gq_v16 j z)
  have n1 : ∀ i, i < 4 → gw_at (gw_put x2 j f) i = nI (if i = j then f else gv i) ∧ (if i = j then f else gv i) < 65536 := by
    intro i hi
    rw [gw_at_put x2 hi z hf]
    by_cases e : i = j
    · rw [if_pos e, if_pos e]; exact ⟨rfl, hf⟩
    · rw [if_neg e, if_neg e]; exact hr i hi
  have n2 : ∀ i, i < 4 → upd a1 j (nI f) i = nI (if i = j then f else gv i) ∧ (if i = j then f else gv i) < 65536 := by
    intro i hi
    by_cases e : i = j
    · rw [if_pos e, e, pk_us]; exact ⟨rfl, hf⟩
    · rw [if_neg e, pk_un e]; exact ha i hi
  exact gw_l225 (gv := fun i => if i = j then f else gv i) o16 hi hLL hk n1 n2 (fun z => absurd rfl z) (fun kn' sz' bc' bs' zs' a2' a3' a4' h => H _ _ (fun i => if i = j then f else gv i) kn' sz' bc' bs' zs' _ a2' a3' a4' o16 n1 n2 h)
theorem gw_l74 {x6 : Int32} {f : Nat} (hth : th < 16) (hLL : L ≤ 260) (hk : k + 1 < L) (hr : ∀ i, i < 4 → gw_at x2 i = nI (gv i) ∧ gv i < 65536) (ha : ∀ i, i < 4 → a1 i = nI (gv i) ∧ gv i < 65536) (hL : kn ≠ 0 → gw_Ln (gw_Z gv th) sz zs a2 a3) (hf : f < 65536)
    (H : ∀ y2 th' gv' kn' sz' bc' bs' zs' a1' a2' a3' a4', th' < 16 → (∀ i, i < 4 → gw_at y2 i = nI (gv' i) ∧ gv' i < 65536) → (∀ i, i < 4 → a1' i = nI (gv' i) ∧ gv' i < 65536) → (kn' ≠ 0 → gw_Ln (gw_Z gv' th') sz' zs' a2' a3') → J y2 (nI th') (nI (k + 2)) (nI th') kn' sz' bc' bs' zs' a1' a2' a3' a4') :
    wL_law_74 post L xs J x2 (nI th) (nI k) x6 (nI f) kc ks (nI th) kn sz bc bs zs a1 a2 a3 a4 := by
  unfold wL_law_74
  refine ⟨pk_in k L (by omega), fun x9 e9 => ?_⟩
  obtain ⟨i, hi, ei⟩ := pk_andE (xs (nI k).toNatClampNeg >>> ((20 : Int32) &&& 31)) (m := 3) 2 (by decide)
  rw [ei] at e9
  subst e9
  have hi' : i < 4 := hi
  refine pk_loop (σ := Unit) (fun fu j _ => wL_law_90 post L xs J x2 (nI th) (nI k) x6 (nI f) (nI i) kc ks (nI th) kn sz bc bs zs a1 a2 a3 a4 fu (nI j)) (fun j _ => ∀ i, i < j → th.testBit i = true) 4 0 () (by omega) (fun j h => absurd h (by omega)) (fun fu _ h => ?_) (fun fu j _ hj h hw => ?_)
  · try dsimp only at h ⊢
    exact pk_le 4 4 (fun _ => gw_l116 hth hi' hLL hk hr ha hL hf (Nat.le_refl _) h (fun z => absurd z (by omega)) H) (fun z => absurd z (by omega))
  · try dsimp only at h hw ⊢
    refine pk_le 4 j (fun z => absurd z (by omega)) (fun _ => ?_)
    refine ek_if (gw_bit1 (by omega) (by omega)) (fun c => nm_r (nI_1 j) (hw () (fun q hq => ?_))) (fun c => ?_)
    · by_cases e : q = j
      · rw [e]; exact c
      · exact h q (by omega)
    · exact gw_l116 hth hi' hLL hk hr ha hL hf (by omega) h (fun _ => gw_nf c) H
end
theorem gw_16 {xs : Nat → Int32} {L kc ks : Nat} (hLL : L ≤ 260) : ∀ (fu k : Nat) (x2 : Int64) (th : Nat) (gv : Nat → Nat) (kn sz bc bs zs : Int32) (a1 a2 a3 a4 : Nat → Int32), 300 - k < fu → k ≤ 262 → th < 16 → (∀ i, i < 4 → gw_at x2 i = nI (gv i) ∧ gv i < 65536) → (∀ i, i < 4 → a1 i = nI (gv i) ∧ gv i < 65536) → (kn ≠ 0 → gw_Ln (gw_Z gv th) sz zs a2 a3) → wL_law_16 (fun r => r = 1) L xs kc ks fu x2 (nI th) (nI k) (nI th) kn sz bc bs zs a1 a2 a3 a4
  | 0, k, x2, th, gv, kn, sz, bc, bs, zs, a1, a2, a3, a4, h, _, _, _, _, _ => absurd h (by omega)
  | fu + 1, k, x2, th, gv, kn, sz, bc, bs, zs, a1, a2, a3, a4, h, hk, hth, hr, ha, hL => by
    refine pk_le L (k + 1) (fun _ => rfl) (fun z => ?_) rfl (nI_1 k)
    have hin : vp_in (nI k) L := pk_in k L (by omega)
    refine ⟨hin, fun x6 _ => ⟨hin, fun x7 e7 => ⟨hin, ?_⟩⟩⟩
    obtain ⟨x, hx, ex⟩ := pk_andE (xs (nI k).toNatClampNeg >>> ((3 : Int32) &&& 31)) (m := 65535) 16 (by decide)
    rw [ex] at e7
    subst e7
    have hx' : x < 65536 := hx
    have HJ : ∀ y2 th' gv' kn' sz' bc' bs' zs' a1' a2' a3' a4', th' < 16 → (∀ i, i < 4 → gw_at y2 i = nI (gv' i) ∧ gv' i < 65536) → (∀ i, i < 4 → a1' i = nI (gv' i) ∧ gv' i < 65536) → (kn' ≠ 0 → gw_Ln (gw_Z gv' th') sz' zs' a2' a3') → wL_law_16 (fun r => r = 1) L xs kc ks fu y2 (nI th') (nI (k + 2)) (nI th') kn' sz' bc' bs' zs' a1' a2' a3' a4' :=
      fun y2 th' gv' kn' sz' bc' bs' zs' a1' a2' a3' a4' h1 h2 h3 h4 => gw_16 hLL fu (k + 2) y2 th' gv' kn' sz' bc' bs' zs' a1' a2' a3' a4' (by omega) (by omega) h1 h2 h3 h4
    refine br_c (fun _ => ?_) (fun _ => gw_l74 hth hLL z hr ha hL hx' HJ)
    have e2 : (nI x &&& (nI x >>> ((2 : Int32) &&& 31))) &&& (nI x >>> ((5 : Int32) &&& 31)) = nI ((x &&& x / 2 ^ 2) &&& x / 2 ^ 5) := by
      rw [pk_shrN (by omega) ((2 : Int32) &&& 31) 2 (by decide), pk_shrN (by omega) ((5 : Int32) &&& 31) 5 (by decide), gw_and, gw_and]
    rw [e2]
    have l1 : (x &&& x / 2 ^ 2) &&& x / 2 ^ 5 < 65536 := by
      have h1 : x / 2 ^ 5 ≤ x := Nat.div_le_self _ _
      exact Nat.and_lt_two_pow (n := 16) _ (show x / 2 ^ 5 < 2 ^ 16 by omega)
    exact gw_l74 hth hLL z hr ha hL l1 HJ
theorem i_vc (xs : Nat → Int32) (L : Nat) (hL : L ≤ 260) : wpL_law (fun r => r = 1) L xs := by
  have h := gw_16 (xs := xs) (kc := 1 + 4) (ks := 10 + 86) hL 301 0 0 0 (fun _ => 0) 0 0 0 0 0 (fun _ => 0) (fun _ => 0) (fun _ => 0) (fun _ => 0) (by omega) (by omega) (by omega) (fun i hi => ⟨gw_at_0 i hi, by omega⟩) (fun i hi => ⟨rfl, by omega⟩) (fun z => absurd rfl z)
  exact ⟨4, 86, by decide, by decide, by decide, by decide, by decide, by decide, by decide, by decide, by decide, by decide, 301, h⟩
end
