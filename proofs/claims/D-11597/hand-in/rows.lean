section
/-! ===== boxes as numbers ===== -/
def ra_fS (x : Int32) : Int32 := (x >>> ((14 : Int32) &&& 31)) &&& 15
def ra_tS (x : Int32) : Int32 := (x >>> ((10 : Int32) &&& 31)) &&& 15
def ra_fD (x : Int32) : Int32 := (x >>> ((6 : Int32) &&& 31)) &&& 15
def ra_tD (x : Int32) : Int32 := (x >>> ((2 : Int32) &&& 31)) &&& 15
def ra_fP (x : Int32) : Int32 := (x >>> ((1 : Int32) &&& 31)) &&& 1
def ra_tP (x : Int32) : Int32 := x &&& 1
/-- the six numbers of a box -/
def ra_is (x : Int32) (a b c d e f : Nat) : Prop := ra_fS x = nI a ∧ ra_tS x = nI b ∧ ra_fD x = nI c ∧ ra_tD x = nI d ∧ ra_fP x = nI e ∧ ra_tP x = nI f ∧ a < 16 ∧ b < 16 ∧ c < 16 ∧ d < 16 ∧ e < 2 ∧ f < 2
def ra_B (a b c d e f : Nat) : Int32 := nI (a * 16384 + b * 1024 + c * 64 + d * 4 + e * 2 + f)
theorem ra_B_is {a b c d e f : Nat} (ha : a < 16) (hb : b < 16) (hc : c < 16) (hd : d < 16) (he : e < 2) (hf : f < 2) : ra_is (ra_B a b c d e f) a b c d e f := by
  have hn : a * 16384 + b * 1024 + c * 64 + d * 4 + e * 2 + f < 2 ^ 31 := by omega
  refine ⟨?_, ?_, ?_, ?_, ?_, ?_, ha, hb, hc, hd, he, hf⟩
  · unfold ra_fS ra_B
    rw [pk_shrN hn _ 14 (by decide), pk_andN (by omega) 4 (by decide)]
    exact congrArg nI (by omega)
  · unfold ra_tS ra_B
    rw [pk_shrN hn _ 10 (by decide), pk_andN (by omega) 4 (by decide)]
    exact congrArg nI (by omega)
  · unfold ra_fD ra_B
    rw [pk_shrN hn _ 6 (by decide), pk_andN (by omega) 4 (by decide)]
    exact congrArg nI (by omega)
  · unfold ra_tD ra_B
    rw [pk_shrN hn _ 2 (by decide), pk_andN (by omega) 4 (by decide)]
    exact congrArg nI (by omega)
  · unfold ra_fP ra_B
    rw [pk_shrN hn _ 1 (by decide), pk_andN (by omega) 1 (by decide)]
    exact congrArg nI (by omega)
  · unfold ra_tP ra_B
    rw [pk_andN (by omega) 1 (by decide)]
    exact congrArg nI (by omega)
/-- the boxes of this law: s from f to t, d from 0 to tp, p = bt -/
def ra_bx (tp bt f t : Nat) : Int32 := ra_B f t 0 tp bt bt
theorem ra_bx_is {tp bt f t : Nat} (hp : tp < 16) (hb : bt < 2) (hf : f < 16) (ht : t < 16) : ra_is (ra_bx tp bt f t) f t 0 tp bt bt := ra_B_is hf ht (by omega) hp hb hb
theorem ra_lowq {tp bt f t : Nat} (hp : tp < 16) (hb : bt < 2) (hf : f < 16) (ht : t < 16) : ra_bx tp bt f t &&& 1023 = nI (tp * 4 + bt * 2 + bt) := by
  unfold ra_bx ra_B
  rw [pk_andN (by omega) 10 (by decide)]
  exact congrArg nI (by omega)
theorem ra_orS : ∀ tp, tp < 16 → ∀ bt, bt < 2 → ∀ f, f < 8 → ∀ t, t < 8 → (nI (tp * 4 + bt * 2 + bt) ||| (nI f <<< ((14 : Int32) &&& 31))) ||| (nI t <<< ((10 : Int32) &&& 31)) = ra_bx tp bt f t := by decide +kernel
theorem ra_withS {tp bt f t f' t' : Nat} (hp : tp < 16) (hb : bt < 2) (hf : f < 16) (ht : t < 16) (hf' : f' < 8) (ht' : t' < 8) : ((ra_bx tp bt f t &&& 1023) ||| (nI f' <<< ((14 : Int32) &&& 31))) ||| (nI t' <<< ((10 : Int32) &&& 31)) = ra_bx tp bt f' t' := by
  rw [ra_lowq hp hb hf ht]
  exact ra_orS tp hp bt hb f' hf' t' ht'
theorem ra_withD : ∀ tp, tp < 16 → ∀ bt, bt < 2 → ∀ f, f < 8 → ∀ t, t < 8 → ((ra_bx tp bt f t &&& (-1021)) ||| (nI 0 <<< ((6 : Int32) &&& 31))) ||| (nI tp <<< ((2 : Int32) &&& 31)) = ra_bx tp bt f t := by decide +kernel
theorem ra_dr0 : ∀ tp, tp < 16 → ((15421 &&& (((255 : Int32) <<< ((2 : Int32) &&& 31)) ^^^ (-1))) ||| ((0 : Int32) <<< (((2 : Int32) + 4) &&& 31))) ||| (nI tp <<< ((2 : Int32) &&& 31)) = nI (15 * 1024 + tp * 4 + 1) := by decide +kernel
theorem ra_dr1 : ∀ tp, tp < 16 → ∀ bt, bt < 2 → (nI (15 * 1024 + tp * 4 + 1) &&& (-4)) ||| nI (bt * 3) = ra_bx tp bt 0 15 := by decide +kernel
theorem ra_drq : ∀ tp, tp < 16 → ∀ bt, bt < 2 → ∀ f, f < 8 → ∀ t, t < 16 → ra_bx tp bt f t &&& (((255 : Int32) <<< ((10 : Int32) &&& 31)) ^^^ (-1)) = nI (tp * 4 + bt * 2 + bt) := by decide +kernel
theorem ra_dr2 {tp bt f t f' t' : Nat} (hp : tp < 16) (hb : bt < 2) (hf : f < 8) (ht : t < 16) (hf' : f' < 8) (ht' : t' < 8) : ((ra_bx tp bt f t &&& (((255 : Int32) <<< ((10 : Int32) &&& 31)) ^^^ (-1))) ||| (nI f' <<< (((10 : Int32) + 4) &&& 31))) ||| (nI t' <<< ((10 : Int32) &&& 31)) = ra_bx tp bt f' t' := by
  rw [ra_drq tp hp bt hb f hf t ht]
  exact ra_orS tp hp bt hb f' hf' t' ht'
theorem ra_pt : ∀ s, s < 8 → ∀ d, d < 16 → ∀ p, p < 2 → (((((nI s <<< ((14 : Int32) &&& 31)) ||| (nI s <<< ((10 : Int32) &&& 31))) ||| (nI d <<< ((6 : Int32) &&& 31))) ||| (nI d <<< ((2 : Int32) &&& 31))) ||| (nI p <<< ((1 : Int32) &&& 31))) ||| nI p = ra_B s s d d p p := by decide +kernel
theorem ra_nar : ∀ a, a < 2 → (nI a).toInt8.toInt32 = nI a := by decide +kernel
theorem ra_narV {a : Nat} (h : a < 2) : vp_nar .byte (nI a) = nI a := by
  rw [vp_nar_byte, ra_nar a h]

/-! ===== sums ===== -/
def ra_sum (m : Nat → Nat) : Nat → Nat
  | 0 => 0
  | n + 1 => ra_sum m n + m n
theorem ra_sum_congr {f g : Nat → Nat} : ∀ {n : Nat}, (∀ k, k < n → f k = g k) → ra_sum f n = ra_sum g n := by
  intro n
  induction n with
  | zero => exact fun _ => rfl
  | succ n ih =>
    intro h
    show ra_sum f n + f n = ra_sum g n + g n
    rw [ih (fun k hk => h k (by omega)), h n (by omega)]
theorem ra_sum_add {f g : Nat → Nat} : ∀ {n : Nat}, ra_sum (fun k => f k + g k) n = ra_sum f n + ra_sum g n := by
  intro n
  induction n with
  | zero => rfl
  | succ n ih =>
    show ra_sum (fun k => f k + g k) n + (f n + g n) = ra_sum f n + f n + (ra_sum g n + g n)
    rw [ih]
    omega
theorem ra_sum_le {f g : Nat → Nat} : ∀ {n : Nat}, (∀ k, k < n → f k ≤ g k) → ra_sum f n ≤ ra_sum g n := by
  intro n
  induction n with
  | zero => exact fun _ => Nat.le_refl _
  | succ n ih =>
    intro h
    show ra_sum f n + f n ≤ ra_sum g n + g n
    have h1 := ih (fun k hk => h k (by omega))
    have h2 := h n (by omega)
    omega
theorem ra_sum_z {f : Nat → Nat} : ∀ {n : Nat}, ra_sum f n = 0 → ∀ k, k < n → f k = 0 := by
  intro n
  induction n with
  | zero => exact fun _ k hk => absurd hk (by omega)
  | succ n ih =>
    intro h k hk
    have h' : ra_sum f n + f n = 0 := h
    by_cases e : k = n
    · rw [e]; omega
    · exact ih (by omega) k (by omega)
theorem ra_sum_0 {f : Nat → Nat} {n : Nat} (h : ∀ k, k < n → f k = 0) : ra_sum f n = 0 := by
  induction n with
  | zero => rfl
  | succ n ih =>
    show ra_sum f n + f n = 0
    rw [ih (fun k hk => h k (by omega)), h n (by omega)]
theorem ra_sum_up {f : Nat → Nat} {n : Nat} : ∀ {k : Nat}, k ≤ n → ra_sum f k ≤ ra_sum f n := by
  induction n with
  | zero =>
    intro k h
    rw [show k = 0 by omega]
    exact Nat.le_refl _
  | succ n ih =>
    intro k h
    by_cases e : k = n + 1
    · rw [e]; exact Nat.le_refl _
    · have h1 := ih (k := k) (by omega)
      show ra_sum f k ≤ ra_sum f n + f n
      omega
theorem ra_sum_ge {f : Nat → Nat} {n k : Nat} (h : k < n) : f k ≤ ra_sum f n := by
  have h1 : ra_sum f (k + 1) ≤ ra_sum f n := ra_sum_up (by omega)
  have h2 : ra_sum f (k + 1) = ra_sum f k + f k := rfl
  omega
theorem ra_sum_n {f : Nat → Nat} {n : Nat} (h : ∀ k, k < n → f k ≤ 1) : ra_sum f n ≤ n := by
  induction n with
  | zero => exact Nat.le_refl _
  | succ n ih =>
    show ra_sum f n + f n ≤ n + 1
    have h1 := ih (fun k hk => h k (by omega))
    have h2 := h n (by omega)
    omega

/-! ===== a list of boxes against its multiplicity ===== -/
/-- 1 if s lies in [f, t], else 0 -/
def ra_i1 (f t s : Nat) : Nat := if f ≤ s ∧ s ≤ t then 1 else 0
theorem ra_i1_t {f t s : Nat} (h : f ≤ s ∧ s ≤ t) : ra_i1 f t s = 1 := if_pos h
theorem ra_i1_f {f t s : Nat} (h : ¬ (f ≤ s ∧ s ≤ t)) : ra_i1 f t s = 0 := if_neg h
theorem ra_i1_sum : ∀ f, f < 8 → ∀ t, t < 8 → f ≤ t → ra_sum (ra_i1 f t) 8 = t - f + 1 := by decide +kernel
/-- how often the box x holds s -/
def ra_c (x : Int32) (s : Nat) : Nat := ra_i1 (ra_fS x).toNatClampNeg (ra_tS x).toNatClampNeg s
theorem ra_c_bx {tp bt f t : Nat} (hp : tp < 16) (hb : bt < 2) (hf : f < 16) (ht : t < 16) (s : Nat) : ra_c (ra_bx tp bt f t) s = ra_i1 f t s := by
  obtain ⟨h1, h2, _⟩ := ra_bx_is hp hb hf ht
  unfold ra_c
  rw [h1, h2, nI_clamp (by omega), nI_clamp (by omega)]
/-- how often the first n boxes hold s -/
def ra_M (arr : Nat → Int32) (n s : Nat) : Nat := ra_sum (fun k => ra_c (arr k) s) n
theorem ra_M_s (arr : Nat → Int32) (n s : Nat) : ra_M arr (n + 1) s = ra_M arr n s + ra_c (arr n) s := rfl
/-- the first n cells are boxes (none empty, below 8) -/
def ra_ok (tp bt : Nat) (arr : Nat → Int32) (n : Nat) : Prop := ∀ k, k < n → ∃ f t, f ≤ t ∧ t < 8 ∧ arr k = ra_bx tp bt f t
/-- the first n cells are boxes that hold each s m s times -/
def ra_R (tp bt : Nat) (arr : Nat → Int32) (n : Nat) (m : Nat → Nat) : Prop :=
  ra_ok tp bt arr n ∧ ∀ s, s < 8 → ra_M arr n s = m s
theorem ra_R_0 {tp bt : Nat} {arr : Nat → Int32} : ra_R tp bt arr 0 (fun _ => 0) := ⟨fun k hk => absurd hk (by omega), fun _ _ => rfl⟩
theorem ra_R_m {tp bt n : Nat} {arr : Nat → Int32} {m m' : Nat → Nat} (h : ra_R tp bt arr n m) (e : ∀ s, s < 8 → m s = m' s) : ra_R tp bt arr n m' :=
  ⟨h.1, fun s hs => (h.2 s hs).trans (e s hs)⟩
theorem ra_M_arr {arr arr' : Nat → Int32} {n : Nat} (e : ∀ k, k < n → arr' k = arr k) (s : Nat) : ra_M arr' n s = ra_M arr n s :=
  ra_sum_congr (fun k hk => by rw [e k hk])
theorem ra_R_arr {tp bt n : Nat} {arr arr' : Nat → Int32} {m : Nat → Nat} (h : ra_R tp bt arr n m) (e : ∀ k, k < n → arr' k = arr k) : ra_R tp bt arr' n m :=
  ⟨fun k hk => by rw [e k hk]; exact h.1 k hk, fun s hs => by rw [ra_M_arr e s]; exact h.2 s hs⟩
theorem ra_R_push {tp bt n f t : Nat} {arr : Nat → Int32} {m : Nat → Nat} (hp : tp < 16) (hb : bt < 2) (h : ra_R tp bt arr n m) (hf : f ≤ t) (ht : t < 8) :
    ra_R tp bt (upd arr n (ra_bx tp bt f t)) (n + 1) (fun s => m s + ra_i1 f t s) := by
  have e : ∀ k, k < n → upd arr n (ra_bx tp bt f t) k = arr k := fun k hk => pk_un (by omega)
  refine ⟨fun k hk => ?_, fun s hs => ?_⟩
  · by_cases ek : k = n
    · exact ⟨f, t, hf, ht, by rw [ek, pk_us]⟩
    · rw [pk_un ek]
      exact h.1 k (by omega)
  · rw [ra_M_s, ra_M_arr e s, h.2 s hs, pk_us, ra_c_bx hp hb (by omega) (by omega)]
/-- the volume in s of the first n boxes -/
def ra_V (arr : Nat → Int32) (n : Nat) : Nat := ra_sum (ra_M arr n) 8
theorem ra_V_s {tp bt n f t : Nat} {arr : Nat → Int32} (hp : tp < 16) (hb : bt < 2) (hf : f ≤ t) (ht : t < 8) (e : arr n = ra_bx tp bt f t) : ra_V arr (n + 1) = ra_V arr n + (t - f + 1) := by
  have h1 : ra_V arr (n + 1) = ra_sum (fun s => ra_M arr n s + ra_i1 f t s) 8 := ra_sum_congr (fun s _ => by rw [ra_M_s, e, ra_c_bx hp hb (by omega) (by omega)])
  rw [h1, ra_sum_add, ra_i1_sum f (by omega) t ht hf]
  rfl
theorem ra_V_m {tp bt n : Nat} {arr : Nat → Int32} {m : Nat → Nat} (h : ra_R tp bt arr n m) : ra_V arr n = ra_sum m 8 := ra_sum_congr h.2
theorem ra_V_ge {tp bt n : Nat} {arr : Nat → Int32} (hp : tp < 16) (hb : bt < 2) (h : ra_ok tp bt arr n) : n ≤ ra_V arr n := by
  have key : ∀ k, k ≤ n → k ≤ ra_V arr k := by
    intro k
    induction k with
    | zero => exact fun _ => Nat.zero_le _
    | succ k ih =>
      intro hk
      obtain ⟨f, t, hf, ht, e⟩ := h k (by omega)
      rw [ra_V_s hp hb hf ht e]
      have := ih (by omega)
      omega
  exact key n (Nat.le_refl n)
theorem ra_R_len {tp bt n : Nat} {arr : Nat → Int32} {m : Nat → Nat} (hp : tp < 16) (hb : bt < 2) (h : ra_R tp bt arr n m) : n ≤ ra_sum m 8 := by
  have := ra_V_ge hp hb h.1
  rw [ra_V_m h] at this
  exact this
theorem ra_M_up {arr : Nat → Int32} {k n s : Nat} (h : k ≤ n) : ra_M arr k s ≤ ra_M arr n s := ra_sum_up h
/-- no box, no packet -/
theorem ra_R_nil {tp bt n : Nat} {arr : Nat → Int32} {m : Nat → Nat} (hp : tp < 16) (hb : bt < 2) (h : ra_R tp bt arr n m) : n = 0 ↔ ra_sum m 8 = 0 := by
  constructor
  · intro e
    subst e
    exact ra_sum_0 (fun s hs => (h.2 s hs).symm)
  · intro e
    have := ra_R_len hp hb h
    omega

/-! ===== the least place ===== -/
def ra_ls (m : Nat → Nat) : Nat → Option Nat
  | 0 => none
  | n + 1 => match ra_ls m n with
    | some k => some k
    | none => if m n = 0 then none else some n
def ra_lo (bt : Nat) : Option Nat → Int32
  | none => -3
  | some k => nI (32 * k + bt)
def ra_il (N : Nat) (m : Nat → Nat) : Option Nat → Prop
  | none => ∀ s, s < N → m s = 0
  | some k => k < N ∧ 0 < m k ∧ ∀ s, s < k → m s = 0
theorem ra_il_ls (m : Nat → Nat) (N : Nat) : ra_il N m (ra_ls m N) := by
  induction N with
  | zero => exact fun s hs => absurd hs (by omega)
  | succ n ih =>
    unfold ra_ls
    revert ih
    generalize ra_ls m n = o
    intro ih
    cases o with
    | some k => exact ⟨Nat.lt_succ_of_lt ih.1, ih.2.1, ih.2.2⟩
    | none =>
      dsimp only
      by_cases e : m n = 0
      · rw [if_pos e]
        intro s hs
        by_cases es : s = n
        · rw [es]; exact e
        · exact ih s (by omega)
      · rw [if_neg e]
        exact ⟨by omega, by omega, ih⟩
theorem ra_il_u {N : Nat} {m : Nat → Nat} {o o' : Option Nat} (h : ra_il N m o) (h' : ra_il N m o') : o = o' := by
  cases o with
  | none =>
    cases o' with
    | none => rfl
    | some k =>
      have := h k h'.1
      have := h'.2.1
      omega
  | some k =>
    cases o' with
    | none =>
      have := h' k h.1
      have := h.2.1
      omega
    | some k' =>
      have h1 := h.2.2 k'
      have h2 := h'.2.2 k
      have h3 := h.2.1
      have h4 := h'.2.1
      have e : k = k' := by
        rcases Nat.lt_trichotomy k k' with z | z | z
        · have := h2 z; omega
        · exact z
        · have := h1 z; omega
      rw [e]
theorem ra_il_m {N : Nat} {m m' : Nat → Nat} {o : Option Nat} (h : ra_il N m o) (e : ∀ s, s < N → m s = m' s) : ra_il N m' o := by
  cases o with
  | none => exact fun s hs => (e s hs).symm.trans (h s hs)
  | some k =>
    refine ⟨h.1, ?_, fun s hs => ?_⟩
    · rw [← e k h.1]; exact h.2.1
    · have := h.1
      rw [← e s (by omega)]; exact h.2.2 s hs
theorem ra_il_none {m : Nat → Nat} {f t : Nat} (h : ra_il 8 m none) (hf : f ≤ t) (ht : t < 8) : ra_il 8 (fun s => m s + ra_i1 f t s) (some f) := by
  refine ⟨by omega, ?_, fun s hs => ?_⟩
  · show 0 < m f + ra_i1 f t f
    rw [ra_i1_t ⟨Nat.le_refl f, hf⟩]; omega
  · show m s + ra_i1 f t s = 0
    rw [ra_i1_f (by omega), h s (by omega)]
theorem ra_il_keep {m : Nat → Nat} {f t k : Nat} (h : ra_il 8 m (some k)) (hk : k ≤ f) : ra_il 8 (fun s => m s + ra_i1 f t s) (some k) := by
  refine ⟨h.1, ?_, fun s hs => ?_⟩
  · show 0 < m k + ra_i1 f t k
    have := h.2.1
    omega
  · show m s + ra_i1 f t s = 0
    rw [ra_i1_f (by omega), h.2.2 s hs]
theorem ra_il_low {m : Nat → Nat} {f t k : Nat} (h : ra_il 8 m (some k)) (hk : f < k) (hf : f ≤ t) (ht : t < 8) : ra_il 8 (fun s => m s + ra_i1 f t s) (some f) := by
  refine ⟨by omega, ?_, fun s hs => ?_⟩
  · show 0 < m f + ra_i1 f t f
    rw [ra_i1_t ⟨Nat.le_refl f, hf⟩]; omega
  · show m s + ra_i1 f t s = 0
    rw [ra_i1_f (by omega), h.2.2 s (by omega)]
end
section
/-! ===== the boxes' own methods ===== -/
section
variable {dr rc wc pc ac sc : Int32} {a1 a2 a3 a4 a5 a6 : Nat → Int32}
theorem ra_meets {post : Int32 → Prop} {u : St2} {x y : Int32} {a b c d e f a' b' c' d' e' f' : Nat} (hx : ra_is x a b c d e f) (hy : ra_is y a' b' c' d' e' f')
    (H0 : ¬ (a ≤ b' ∧ a' ≤ b ∧ c ≤ d' ∧ c' ≤ d ∧ e ≤ f' ∧ e' ≤ f) → post 0) (H1 : a ≤ b' ∧ a' ≤ b ∧ c ≤ d' ∧ c' ≤ d ∧ e ≤ f' ∧ e' ≤ f → post 1) : wpX_meets post u x y := by
  obtain ⟨x1, x2, x3, x4, x5, x6, xa, xb, xc, xd, xe, xf⟩ := hx
  obtain ⟨y1, y2, y3, y4, y5, y6, ya, yb, yc, yd, ye, yf⟩ := hy
  obtain ⟨f1, f2, f3, f4, f5, f6, g1, g2, g3, g4, g5, g6⟩ := u
  exact pk_lt b' a (fun z => H0 (by omega)) (fun z1 => pk_le a' b (fun z2 => pk_lt d' c (fun z => H0 (by omega)) (fun z3 => pk_le c' d (fun z4 => pk_lt f' e (fun z => H0 (by omega)) (fun z5 => pk_lt f e' (fun z => H0 (by omega)) (fun z6 => H1 ⟨z1, z2, z3, z4, z5, z6⟩) x6 y5 (by omega) (by omega)) y6 x5 (by omega) (by omega)) (fun z => H0 (by omega)) y3 x4 (by omega) (by omega)) y4 x3 (by omega) (by omega)) (fun z => H0 (by omega)) y1 x2 (by omega) (by omega)) y2 x1 (by omega) (by omega)
theorem ra_within {post : Int32 → Prop} {u : St2} {x y : Int32} (H0 : post 0) (H1 : post 1) : wpX_within post u x y := by
  obtain ⟨f1, f2, f3, f4, f5, f6, g1, g2, g3, g4, g5, g6⟩ := u
  exact br_c (fun _ => H0) (fun _ => br_c (fun _ => br_c (fun _ => H0) (fun _ => br_c (fun _ => br_c (fun _ => H0) (fun _ => br_c (fun _ => H0) (fun _ => H1))) (fun _ => H0))) (fun _ => H0))
theorem ra_add {post : St2 → Prop} {n : Nat} {x : Int32} (hn : n < 512) (H : post (dr, rc, wc, nI (n + 1), ac, sc, a1, a2, a3, upd a4 n x, a5, a6)) : wpX_addPiece post (dr, rc, wc, nI n, ac, sc, a1, a2, a3, a4, a5, a6) x :=
  ⟨pk_in n 512 hn, nm_r (by rw [nI_clamp (by omega)]) (nm_r (nI_1 n) H)⟩
theorem ra_wS {post : Int32 → Prop} {tp bt f t f' t' : Nat} {x3 x4 : Int32} (hp : tp < 16) (hb : bt < 2) (hf : f < 16) (ht : t < 16) (hf' : f' < 8) (ht' : t' < 8) (e3 : x3 = nI f') (e4 : x4 = nI t') (H : post (ra_bx tp bt f' t')) :
    wpX_withS post (dr, rc, wc, pc, ac, sc, a1, a2, a3, a4, a5, a6) (ra_bx tp bt f t) x3 x4 := by
  subst e3 e4
  have e := ra_withS hp hb hf ht hf' ht'
  show post (((ra_bx tp bt f t &&& 1023) ||| (nI f' <<< ((14 : Int32) &&& 31))) ||| (nI t' <<< ((10 : Int32) &&& 31)))
  rw [e]
  exact H
theorem ra_wD {post : Int32 → Prop} {tp bt f t : Nat} {x3 x4 : Int32} (hp : tp < 16) (hb : bt < 2) (hf : f < 8) (ht : t < 8) (e3 : x3 = nI 0) (e4 : x4 = nI tp) (H : post (ra_bx tp bt f t)) :
    wpX_withD post (dr, rc, wc, pc, ac, sc, a1, a2, a3, a4, a5, a6) (ra_bx tp bt f t) x3 x4 := by
  subst e3 e4
  have e := ra_withD tp hp bt hb f hf t ht
  show post (((ra_bx tp bt f t &&& (-1021)) ||| (nI 0 <<< ((6 : Int32) &&& 31))) ||| (nI tp <<< ((2 : Int32) &&& 31)))
  rw [e]
  exact H
theorem ra_cv0 {f t cf ct : Nat} (m : Nat → Nat) (h1 : cf ≤ f) (h2 : t ≤ ct) (s : Nat) : m s = m s + (if cf ≤ s ∧ s ≤ ct then 0 else ra_i1 f t s) := by
  unfold ra_i1
  repeat' split
  all_goals omega
theorem ra_cv1 {f t cf ct : Nat} (m : Nat → Nat) (h1 : cf ≤ f) (h2 : ct < t) (h3 : f ≤ ct) (s : Nat) : m s + ra_i1 (ct + 1) t s = m s + (if cf ≤ s ∧ s ≤ ct then 0 else ra_i1 f t s) := by
  unfold ra_i1
  repeat' split
  all_goals omega
theorem ra_cv2 {f t cf ct : Nat} (m : Nat → Nat) (h1 : f < cf) (h2 : t ≤ ct) (h3 : cf ≤ t) (s : Nat) : m s + ra_i1 f (cf - 1) s = m s + (if cf ≤ s ∧ s ≤ ct then 0 else ra_i1 f t s) := by
  unfold ra_i1
  repeat' split
  all_goals omega
theorem ra_cv3 {f t cf ct : Nat} (m : Nat → Nat) (h1 : f < cf) (h2 : ct < t) (h3 : cf ≤ ct) (s : Nat) : m s + ra_i1 f (cf - 1) s + ra_i1 (ct + 1) t s = m s + (if cf ≤ s ∧ s ≤ ct then 0 else ra_i1 f t s) := by
  unfold ra_i1
  repeat' split
  all_goals omega
/-- the second half of carveS: x3 is where the rest begins -/
theorem ra_S54 {post : Int32 → St2 → Prop} {tp bt n f t f' ct : Nat} {x3 x4 x6 : Int32} (hp : tp < 16) (hb : bt < 2) (hf : f < 16) (ht : t < 8) (hct : ct < 8) (hf' : f' ≤ t) (hf2 : f' ≤ ct) (hn : n < 512)
    (e3 : x3 = nI f') (e4 : x4 = nI t) (e6 : x6 = nI ct)
    (H0 : t ≤ ct → post (ra_bx tp bt f' t) (dr, rc, wc, nI n, ac, sc, a1, a2, a3, a4, a5, a6))
    (H1 : ct < t → post (ra_bx tp bt f' ct) (dr, rc, wc, nI (n + 1), ac, sc, a1, a2, a3, upd a4 n (ra_bx tp bt (ct + 1) t), a5, a6)) :
    wX_carveS_54 post (ra_bx tp bt f t) x3 x4 x6 dr rc wc (nI n) ac sc a1 a2 a3 a4 a5 a6 := by
  subst e3 e4 e6
  refine pk_le t ct (fun z => ?_) (fun z => ?_)
  · exact ra_wS hp hb hf (by omega) (by omega) ht rfl rfl (H0 z)
  · refine ra_wS hp hb hf (by omega) (by omega) ht (nI_1 ct) rfl (ra_add hn ?_)
    exact ra_wS hp hb hf (by omega) (by omega) hct rfl rfl (H1 z)
theorem ra_carveS {post : Int32 → St2 → Prop} {tp bt n f t cf ct : Nat} {m : Nat → Nat} (hp : tp < 16) (hb : bt < 2) (hf : f ≤ t) (ht : t < 8) (hc : cf ≤ ct) (hct : ct < 8) (h1 : f ≤ ct) (h2 : cf ≤ t) (hR : ra_R tp bt a4 n m) (hn : n < 500)
    (H : ∀ n' a4' f' t', f' ≤ t' → t' < 8 → ra_R tp bt a4' n' (fun s => m s + (if cf ≤ s ∧ s ≤ ct then 0 else ra_i1 f t s)) → post (ra_bx tp bt f' t') (dr, rc, wc, nI n', ac, sc, a1, a2, a3, a4', a5, a6)) :
    wpX_carveS post (dr, rc, wc, nI n, ac, sc, a1, a2, a3, a4, a5, a6) (ra_bx tp bt f t) (ra_bx tp bt cf ct) := by
  obtain ⟨x1, x2, _⟩ := ra_bx_is (f := f) (t := t) hp hb (by omega) (by omega)
  obtain ⟨y1, y2, _⟩ := ra_bx_is (f := cf) (t := ct) hp hb (by omega) (by omega)
  have y3 : ra_fS (ra_bx tp bt cf ct) - 1 = nI cf - 1 := by rw [y1]
  refine pk_le cf f (fun z => ?_) (fun z => ?_) y1 x1 (by omega) (by omega)
  · refine ra_S54 hp hb (by omega) ht hct hf h1 (by omega) x1 x2 y2 (fun z2 => ?_) (fun z2 => ?_)
    · exact H _ _ _ _ hf ht (ra_R_m hR (fun s _ => ra_cv0 m z z2 s))
    · exact H _ _ _ _ h1 hct (ra_R_m (ra_R_push hp hb hR (show ct + 1 ≤ t by omega) ht) (fun s _ => ra_cv1 m z z2 h1 s))
  · have e : nI cf - 1 = nI (cf - 1) := by
      have := nI_pred (cf - 1)
      rw [show cf - 1 + 1 = cf by omega] at this
      exact this
    refine ra_wS hp hb (by omega) (by omega) (show f < 8 by omega) (show cf - 1 < 8 by omega) x1 (y3.trans e) (ra_add (by omega) ?_)
    have hR2 := ra_R_push hp hb hR (show f ≤ cf - 1 by omega) (show cf - 1 < 8 by omega)
    refine ra_S54 hp hb (by omega) ht hct h2 hc (by omega) y1 x2 y2 (fun z2 => ?_) (fun z2 => ?_)
    · exact H _ _ _ _ h2 ht (ra_R_m hR2 (fun s _ => ra_cv2 m z z2 h2 s))
    · exact H _ _ _ _ hc hct (ra_R_m (ra_R_push hp hb hR2 (show ct + 1 ≤ t by omega) ht) (fun s _ => ra_cv3 m z z2 hc s))
theorem ra_carveD {post : Int32 → St2 → Prop} {tp bt f t cf ct : Nat} (hp : tp < 16) (hb : bt < 2) (hf : f < 8) (ht : t < 8) (hcf : cf < 16) (hct : ct < 16)
    (H : post (ra_bx tp bt f t) (dr, rc, wc, pc, ac, sc, a1, a2, a3, a4, a5, a6)) :
    wpX_carveD post (dr, rc, wc, pc, ac, sc, a1, a2, a3, a4, a5, a6) (ra_bx tp bt f t) (ra_bx tp bt cf ct) := by
  obtain ⟨_, _, x3, x4, _⟩ := ra_bx_is (f := f) (t := t) hp hb (by omega) (by omega)
  obtain ⟨_, _, y3, y4, _⟩ := ra_bx_is (f := cf) (t := ct) hp hb hcf hct
  refine pk_le 0 0 (fun _ => ?_) (fun z => absurd z (by omega)) y3 x3 (by omega) (by omega)
  refine pk_le tp tp (fun _ => ?_) (fun z => absurd z (by omega)) x4 y4 (by omega) (by omega)
  exact ra_wD hp hb hf ht x3 x4 H
theorem ra_carve {post : St2 → Prop} {tp bt n f t cf ct : Nat} {m : Nat → Nat} (hp : tp < 16) (hb : bt < 2) (hf : f ≤ t) (ht : t < 8) (hc : cf ≤ ct) (hct : ct < 8) (h1 : f ≤ ct) (h2 : cf ≤ t) (hR : ra_R tp bt a4 n m) (hn : n < 500)
    (H : ∀ n' a4', ra_R tp bt a4' n' (fun s => m s + (if cf ≤ s ∧ s ≤ ct then 0 else ra_i1 f t s)) → post (dr, rc, wc, nI n', ac, sc, a1, a2, a3, a4', a5, a6)) :
    wpX_carve post (dr, rc, wc, nI n, ac, sc, a1, a2, a3, a4, a5, a6) (ra_bx tp bt f t) (ra_bx tp bt cf ct) := by
  unfold wpX_carve
  dsimp only
  refine ra_carveS hp hb hf ht hc hct h1 h2 hR hn (fun n' a4' f' t' hf' ht' hR' => ?_)
  dsimp only
  refine ra_carveD hp hb (by omega) ht' (by omega) (by omega) ?_
  dsimp only
  obtain ⟨_, _, _, _, x5, x6, _⟩ := ra_bx_is (f := f') (t := t') hp hb (by omega) (by omega)
  obtain ⟨_, _, _, _, y5, y6, _⟩ := ra_bx_is (f := cf) (t := ct) hp hb (by omega) (by omega)
  refine pk_le bt bt (fun _ => ?_) (fun z => absurd z (by omega)) y5 x5 (by omega) (by omega)
  exact pk_le bt bt (fun _ => H n' a4' hR') (fun z => absurd z (by omega)) x6 y6 (by omega) (by omega)
theorem ra_fill {f g : Nat → Int32} {i k : Nat} {x : Int32} (hk : k = i) (h : ∀ j, j < i → g j = f j) (hx : x = f i) : ∀ j, j < i + 1 → upd g k x j = f j := by
  intro j hj
  rw [hk]
  by_cases e : j = i
  · rw [e, pk_us, hx]
  · rw [pk_un e]
    exact h j (by omega)
theorem ra_sub61 {post : St2 → Prop} {n : Nat} (hn : n ≤ 500) (H : ∀ b, (∀ k, k < n → b k = a4 k) → post (dr, rc, nI n, nI n, ac, sc, a1, a2, b, a4, a5, a6)) :
    ∃ fu, wX_subtract_61 post dr rc wc (nI n) ac sc fu 0 a1 a2 a3 a4 a5 a6 :=
  pk_loop (fun k i b => wX_subtract_61 post dr rc wc (nI n) ac sc k (nI i) a1 a2 b a4 a5 a6) (fun i b => ∀ j, j < i → b j = a4 j) n 0 a3 (by omega) (fun j hj => absurd hj (by omega))
    (fun k b h => pk_le n n (fun _ => H b h) (fun z => absurd z (by omega)))
    (fun k i b hi h hw => pk_le n i (fun z => absurd z (by omega)) (fun _ => ⟨pk_in i 512 (by omega), pk_in i 512 (by omega), nm_e (nm_r (nI_1 i) (hw _ (ra_fill (nI_clamp (by omega)) h (by rw [nI_clamp (by omega)]))))⟩))
theorem ra_sb0 {tp bt n cf ct i : Nat} {m : Nat → Nat} (hR : ra_R tp bt a3 n m) (hm : ra_sum m 8 ≤ 8) (hi : i ≤ n) : ra_sum (fun s => if cf ≤ s ∧ s ≤ ct then 0 else ra_M a3 i s) 8 ≤ 8 := by
  refine Nat.le_trans (ra_sum_le (fun s hs => ?_)) hm
  have h1 : ra_M a3 i s ≤ ra_M a3 n s := ra_M_up hi
  have h2 := hR.2 s hs
  show (if cf ≤ s ∧ s ≤ ct then 0 else ra_M a3 i s) ≤ m s
  split
  · omega
  · omega
theorem ra_sb1 {tp bt n f t cf ct : Nat} (hp : tp < 16) (hb : bt < 2) (hf : f ≤ t) (ht : t < 8) (e : a3 n = ra_bx tp bt f t) (z : ¬ (f ≤ ct ∧ cf ≤ t)) (s : Nat) :
    (if cf ≤ s ∧ s ≤ ct then 0 else ra_M a3 n s) + ra_i1 f t s = if cf ≤ s ∧ s ≤ ct then 0 else ra_M a3 (n + 1) s := by
  rw [ra_M_s, e, ra_c_bx hp hb (by omega) (by omega)]
  unfold ra_i1
  repeat' split
  all_goals omega
theorem ra_sb2 {tp bt n f t cf ct : Nat} (hp : tp < 16) (hb : bt < 2) (hf : f ≤ t) (ht : t < 8) (e : a3 n = ra_bx tp bt f t) (s : Nat) :
    (if cf ≤ s ∧ s ≤ ct then 0 else ra_M a3 n s) + (if cf ≤ s ∧ s ≤ ct then 0 else ra_i1 f t s) = if cf ≤ s ∧ s ≤ ct then 0 else ra_M a3 (n + 1) s := by
  rw [ra_M_s, e, ra_c_bx hp hb (by omega) (by omega)]
  by_cases h : cf ≤ s ∧ s ≤ ct
  · rw [if_pos h, if_pos h, if_pos h]
  · rw [if_neg h, if_neg h, if_neg h]
theorem ra_subtract {post : St2 → Prop} {tp bt n cf ct : Nat} {m : Nat → Nat} {x : Int32} (hp : tp < 16) (hb : bt < 2) (hc : cf ≤ ct) (hct : ct < 8) (hx : x = ra_bx tp bt cf ct) (hR : ra_R tp bt a3 n m) (hm : ra_sum m 8 ≤ 8)
    (H : ∀ n' a3' a4', ra_R tp bt a3' n' (fun s => if cf ≤ s ∧ s ≤ ct then 0 else m s) → post (dr, rc, nI n', nI n', ac, sc, a1, a2, a3', a4', a5, a6)) :
    wpX_subtract post (dr, rc, nI n, pc, ac, sc, a1, a2, a3, a4, a5, a6) x := by
  subst hx
  have hn : n ≤ 8 := Nat.le_trans (ra_R_len hp hb hR) hm
  refine pk_loop (σ := Nat × (Nat → Int32)) (fun k i q => wX_subtract_7 post (ra_bx tp bt cf ct) k (nI i) dr rc (nI n) (nI q.1) ac sc a1 a2 a3 q.2 a5 a6)
    (fun i q => ra_R tp bt q.2 q.1 (fun s => if cf ≤ s ∧ s ≤ ct then 0 else ra_M a3 i s)) n 0 (0, a4) (by omega) ?_ ?_ ?_
  · exact ra_R_m ra_R_0 (fun s _ => by show 0 = if cf ≤ s ∧ s ≤ ct then 0 else 0; split <;> rfl)
  · intro k q h
    have hq : q.1 ≤ 8 := Nat.le_trans (ra_R_len hp hb h) (ra_sb0 hR hm (Nat.le_refl n))
    refine pk_le n n (fun _ => ra_sub61 (by omega) (fun b hbb => H q.1 b q.2 (ra_R_m (ra_R_arr h hbb) (fun s hs => ?_)))) (fun z => absurd z (by omega))
    show (if cf ≤ s ∧ s ≤ ct then 0 else ra_M a3 n s) = if cf ≤ s ∧ s ≤ ct then 0 else m s
    rw [hR.2 s hs]
  · intro k i q hi h hw
    have hq : q.1 ≤ 8 := Nat.le_trans (ra_R_len hp hb h) (ra_sb0 hR hm (by omega))
    obtain ⟨f, t, hf, ht, e⟩ := hR.1 i hi
    refine pk_le n i (fun z => absurd z (by omega)) (fun _ => ⟨pk_in i 512 (by omega), ?_⟩)
    rw [nI_clamp (show i < 2 ^ 31 by omega), e]
    refine ra_meets (ra_bx_is hp hb (by omega) (by omega)) (ra_bx_is hp hb (by omega) (by omega)) (fun z => ?_) (fun z => ?_)
    · refine br_t rfl ⟨pk_in i 512 (by omega), ra_add (by omega) (nm_r (nI_1 i) (hw (q.1 + 1, upd q.2 q.1 (ra_bx tp bt f t)) ?_))⟩
      exact ra_R_m (ra_R_push hp hb h hf ht) (fun s _ => ra_sb1 hp hb hf ht e (by omega) s)
    · refine br_f (by decide) ⟨pk_in i 512 (by omega), ra_carve hp hb hf ht hc hct z.1 z.2.1 h (by omega) (fun n' a4' hR' => nm_r (nI_1 i) (hw (n', a4') ?_))⟩
      exact ra_R_m hR' (fun s _ => ra_sb2 hp hb hf ht e s)
end
end
section
/-! ===== what a rule owns, what is allowed ===== -/
/-- the first n rules are boxes, rule j the interval iv j -/
def ra_ru (tp bt : Nat) (a1 : Nat → Int32) (n : Nat) (iv : Nat → Nat × Nat) : Prop := ∀ j, j < n → (iv j).1 ≤ (iv j).2 ∧ (iv j).2 < 8 ∧ a1 j = ra_bx tp bt (iv j).1 (iv j).2
def ra_cut (iv : Nat → Nat × Nat) (m : Nat → Nat) : Nat → Nat → Nat
  | 0, s => m s
  | j + 1, s => if (iv j).1 ≤ s ∧ s ≤ (iv j).2 then 0 else ra_cut iv m j s
def ra_own (iv : Nat → Nat × Nat) (i s : Nat) : Nat := ra_cut iv (ra_i1 (iv i).1 (iv i).2) i s
def ra_alm (iv : Nat → Nat × Nat) (act : Nat → Nat) : Nat → Nat → Nat
  | 0, _ => 0
  | i + 1, s => ra_alm iv act i s + (if act i = 0 then 0 else ra_own iv i s)
theorem ra_i1_le (f t s : Nat) : ra_i1 f t s ≤ 1 := by
  unfold ra_i1
  split <;> omega
theorem ra_cut_le (iv : Nat → Nat × Nat) (m : Nat → Nat) (j s : Nat) : ra_cut iv m j s ≤ m s := by
  induction j with
  | zero => exact Nat.le_refl _
  | succ j ih =>
    show (if (iv j).1 ≤ s ∧ s ≤ (iv j).2 then 0 else ra_cut iv m j s) ≤ m s
    split
    · omega
    · exact ih
theorem ra_cut_sum (iv : Nat → Nat × Nat) (f t j : Nat) : ra_sum (ra_cut iv (ra_i1 f t) j) 8 ≤ 8 :=
  ra_sum_n (fun s _ => Nat.le_trans (ra_cut_le iv _ j s) (ra_i1_le f t s))
/-- what is still free behind i rules -/
theorem ra_own_free (iv : Nat → Nat × Nat) (i s : Nat) : ra_own iv i s + ra_cut iv (fun _ => 1) (i + 1) s = ra_cut iv (fun _ => 1) i s := by
  have key : ∀ j, ra_cut iv (ra_i1 (iv i).1 (iv i).2) j s = if (iv i).1 ≤ s ∧ s ≤ (iv i).2 then ra_cut iv (fun _ => 1) j s else 0 := by
    intro j
    induction j with
    | zero => rfl
    | succ j ih =>
      show (if (iv j).1 ≤ s ∧ s ≤ (iv j).2 then 0 else ra_cut iv (ra_i1 (iv i).1 (iv i).2) j s) = if (iv i).1 ≤ s ∧ s ≤ (iv i).2 then (if (iv j).1 ≤ s ∧ s ≤ (iv j).2 then 0 else ra_cut iv (fun _ => 1) j s) else 0
      rw [ih]
      repeat' split
      all_goals rfl
  show ra_cut iv (ra_i1 (iv i).1 (iv i).2) i s + (if (iv i).1 ≤ s ∧ s ≤ (iv i).2 then 0 else ra_cut iv (fun _ => 1) i s) = ra_cut iv (fun _ => 1) i s
  rw [key i]
  split
  · omega
  · omega
theorem ra_alm_free (iv : Nat → Nat × Nat) (act : Nat → Nat) (i s : Nat) : ra_alm iv act i s + ra_cut iv (fun _ => 1) i s ≤ 1 := by
  induction i with
  | zero => exact Nat.le_refl _
  | succ i ih =>
    have h := ra_own_free iv i s
    show ra_alm iv act i s + (if act i = 0 then 0 else ra_own iv i s) + ra_cut iv (fun _ => 1) (i + 1) s ≤ 1
    split <;> omega
theorem ra_alm_sum (iv : Nat → Nat × Nat) (act : Nat → Nat) (i : Nat) : ra_sum (ra_alm iv act i) 8 ≤ 8 :=
  ra_sum_n (fun s _ => by have := ra_alm_free iv act i s; omega)
theorem ra_V_0 (arr : Nat → Int32) (c : Nat) : nI (ra_V arr 0 * c) = 0 := by
  have : ra_V arr 0 = 0 := ra_sum_0 (fun k _ => rfl)
  rw [this, Nat.zero_mul]
  rfl

section
variable {dr rc wc pc ac sc : Int32} {a1 a2 a3 a4 a5 a6 : Nat → Int32}
theorem ra_carveOwned {post : St2 → Prop} {tp bt i nr : Nat} {iv : Nat → Nat × Nat} {x : Int32} (hp : tp < 16) (hb : bt < 2) (hi : i < nr) (hnr : nr ≤ 10) (hx : x = nI i) (hr : ra_ru tp bt a1 nr iv)
    (H : ∀ n pc' a3' a4', ra_R tp bt a3' n (ra_own iv i) → post (dr, rc, nI n, pc', ac, sc, a1, a2, a3', a4', a5, a6)) :
    wpX_carveOwned post (dr, rc, wc, pc, ac, sc, a1, a2, a3, a4, a5, a6) x := by
  subst hx
  refine ⟨pk_in i 10 (by omega), nm_e ?_⟩
  show ∃ fu12, wX_carveOwned_12 post (nI i) fu12 0 dr rc 1 pc ac sc a1 a2 (upd a3 0 (a1 (nI i).toNatClampNeg)) a4 a5 a6
  obtain ⟨hf, ht, e⟩ := hr i hi
  rw [nI_clamp (show i < 2 ^ 31 by omega), e]
  refine pk_loop (σ := Nat × Int32 × (Nat → Int32) × (Nat → Int32)) (fun k j q => wX_carveOwned_12 post (nI i) k (nI j) dr rc (nI q.1) q.2.1 ac sc a1 a2 q.2.2.1 q.2.2.2 a5 a6)
    (fun j q => ra_R tp bt q.2.2.1 q.1 (ra_cut iv (ra_i1 (iv i).1 (iv i).2) j)) i 0 (1, pc, upd a3 0 (ra_bx tp bt (iv i).1 (iv i).2), a4) (by omega) ?_ ?_ ?_
  · exact ra_R_m (ra_R_push hp hb ra_R_0 hf ht) (fun s _ => Nat.zero_add _)
  · intro k q h
    exact pk_le i i (fun _ => H q.1 q.2.1 q.2.2.1 q.2.2.2 h) (fun z => absurd z (by omega))
  · intro k j q hj h hw
    obtain ⟨hjf, hjt, ej⟩ := hr j (by omega)
    refine pk_le i j (fun z => absurd z (by omega)) (fun _ => ⟨pk_in j 10 (by omega), ?_⟩)
    refine ra_subtract hp hb hjf hjt (by rw [nI_clamp (show j < 2 ^ 31 by omega)]; exact ej) h (ra_cut_sum _ _ _ _) (fun n' a3' a4' hR' => nm_r (nI_1 j) (hw (n', nI n', a3', a4') ?_))
    exact ra_R_m hR' (fun s _ => rfl)
theorem ra_volume {post : Int32 → Prop} {tp bt f t : Nat} {u : St2} {x : Int32} (hp : tp < 16) (hb : bt < 2) (hf : f ≤ t) (ht : t < 8) (hx : x = ra_bx tp bt f t) (H : post (nI ((t - f + 1) * (tp + 1)))) : wpX_volume post u x := by
  subst hx
  obtain ⟨f1, f2, f3, f4, f5, f6, g1, g2, g3, g4, g5, g6⟩ := u
  obtain ⟨x1, x2, x3, x4, x5, x6, _⟩ := ra_bx_is (f := f) (t := t) hp hb (by omega) (by omega)
  have e1 : ra_tS (ra_bx tp bt f t) - ra_fS (ra_bx tp bt f t) + 1 = nI (t - f + 1) := by rw [x2, x1, pk_sub hf, nI_1]
  have e2 : ra_tD (ra_bx tp bt f t) - ra_fD (ra_bx tp bt f t) + 1 = nI (tp + 1) := by rw [x4, x3, pk_sub (Nat.zero_le _), nI_1, Nat.sub_zero]
  have e3 : ra_tP (ra_bx tp bt f t) - ra_fP (ra_bx tp bt f t) + 1 = nI 1 := by rw [x6, x5, pk_sub (Nat.le_refl _), nI_1, Nat.sub_self]
  refine nm_r e1 (nm_r e2 (nm_r e3 ?_))
  rw [pk_mul, pk_mul, Nat.mul_one]
  exact H
theorem ra_volW {post : Int32 → Prop} {tp bt n : Nat} {m : Nat → Nat} (hp : tp < 16) (hb : bt < 2) (hR : ra_R tp bt a3 n m) (hm : ra_sum m 8 ≤ 8) (H : post (nI (ra_sum m 8 * (tp + 1)))) :
    wpX_volumeOfWork post (dr, rc, nI n, pc, ac, sc, a1, a2, a3, a4, a5, a6) := by
  have hn : n ≤ 8 := Nat.le_trans (ra_R_len hp hb hR) hm
  have key : ∃ k, wX_volumeOfWork_4 post dr rc (nI n) pc ac sc a1 a2 a3 a4 a5 a6 k (nI (ra_V a3 0 * (tp + 1))) (nI 0) := by
    refine pk_loop (σ := Unit) (fun k i _ => wX_volumeOfWork_4 post dr rc (nI n) pc ac sc a1 a2 a3 a4 a5 a6 k (nI (ra_V a3 i * (tp + 1))) (nI i)) (fun _ _ => True) n 0 () (by omega) trivial ?_ ?_
    · intro k _ _
      rw [ra_V_m hR]
      exact pk_le n n (fun _ => H) (fun z => absurd z (by omega))
    · intro k i _ hi _ hw
      obtain ⟨f, t, hf, ht, e⟩ := hR.1 i hi
      refine pk_le n i (fun z => absurd z (by omega)) (fun _ => ⟨pk_in i 512 (by omega), ?_⟩)
      refine ra_volume hp hb hf ht (by rw [nI_clamp (show i < 2 ^ 31 by omega)]; exact e) (nm_r ?_ (nm_r (nI_1 i) (hw () trivial)))
      rw [nI_add, ← Nat.add_mul, ra_V_s hp hb hf ht e]
  rw [ra_V_0] at key
  exact key
theorem ra_isRule {post : Int32 → Prop} {i nr : Nat} {x : Int32} (hi : i < nr) (hnr : nr ≤ 10) (hx : x = nI i) (H : post 1) : wpX_isRule post (dr, nI nr, wc, pc, ac, sc, a1, a2, a3, a4, a5, a6) x := by
  subst hx
  exact br_f (nI_pos (by omega)) (pk_le nr i (fun z => absurd z (by omega)) (fun _ => H))
theorem ra_owned {post : Int32 → St2 → Prop} {tp bt i nr : Nat} {iv : Nat → Nat × Nat} {x : Int32} (hp : tp < 16) (hb : bt < 2) (hi : i < nr) (hnr : nr ≤ 10) (hx : x = nI i) (hr : ra_ru tp bt a1 nr iv)
    (H : ∀ wc' pc' a3' a4', post (nI (ra_sum (ra_own iv i) 8 * (tp + 1))) (dr, nI nr, wc', pc', ac, sc, a1, a2, a3', a4', a5, a6)) :
    wpX_owned post (dr, nI nr, wc, pc, ac, sc, a1, a2, a3, a4, a5, a6) x := by
  unfold wpX_owned
  dsimp only
  refine ra_isRule hi hnr hx (br_f (by decide) ?_)
  refine ra_carveOwned hp hb hi hnr hx hr (fun n pc' a3' a4' hR => ?_)
  exact ra_volW hp hb hR (ra_cut_sum _ _ _ _) (H _ _ _ _)
theorem ra_g34 {post : St2 → Prop} {J : Int32 → Int32 → Int32 → Int32 → Int32 → Int32 → Int32 → (Nat → Int32) → (Nat → Int32) → (Nat → Int32) → (Nat → Int32) → (Nat → Int32) → (Nat → Int32) → Prop} {tp bt n na i : Nat} {m m0 : Nat → Nat} (hp : tp < 16) (hb : bt < 2)
    (hR : ra_R tp bt a3 n m) (h0 : ra_R tp bt a5 na m0) (hn : na + n < 500)
    (H : ∀ a5', ra_R tp bt a5' (na + n) (fun s => m0 s + m s) → J (nI (i + 1)) dr rc (nI n) pc (nI (na + n)) sc a1 a2 a3 a4 a5' a6) :
    ∃ fu, wX_gatherAllowed_34 post J (nI i) dr rc (nI n) pc sc fu 0 (nI na) a1 a2 a3 a4 a5 a6 := by
  refine pk_loop (fun k j b => wX_gatherAllowed_34 post J (nI i) dr rc (nI n) pc sc k (nI j) (nI (na + j)) a1 a2 a3 a4 b a6) (fun j b => ra_R tp bt b (na + j) (fun s => m0 s + ra_M a3 j s)) n 0 a5 (by omega) ?_ ?_ ?_
  · exact ra_R_m h0 (fun s _ => rfl)
  · intro k b h
    exact pk_le n n (fun _ => nm_r (nI_1 i) (H b (ra_R_m h (fun s hs => by rw [hR.2 s hs])))) (fun z => absurd z (by omega))
  · intro k j b hj h hw
    obtain ⟨f, t, hf, ht, e⟩ := hR.1 j hj
    refine pk_le n j (fun z => absurd z (by omega)) (fun _ => ⟨pk_in j 512 (by omega), pk_in (na + j) 512 (by omega), nm_r (e' := upd b (na + j) (ra_bx tp bt f t)) ?_ (nm_r (nI_1 (na + j)) (nm_r (nI_1 j) (hw _ ?_)))⟩)
    · rw [nI_clamp (show na + j < 2 ^ 31 by omega), nI_clamp (show j < 2 ^ 31 by omega), e]
    · refine ra_R_m (ra_R_push hp hb h hf ht) (fun s _ => ?_)
      show m0 s + ra_M a3 j s + ra_i1 f t s = m0 s + ra_M a3 (j + 1) s
      rw [ra_M_s, e, ra_c_bx hp hb (by omega) (by omega)]
      omega
theorem ra_gather {post : St2 → Prop} {tp bt nr : Nat} {iv : Nat → Nat × Nat} {act : Nat → Nat} (hp : tp < 16) (hb : bt < 2) (hnr : nr ≤ 10) (hr : ra_ru tp bt a1 nr iv) (ha : ∀ j, j < nr → act j < 2 ∧ a2 j = nI (act j))
    (H : ∀ n wc' pc' a3' a4' a5', ra_R tp bt a5' n (ra_alm iv act nr) → post (dr, nI nr, wc', pc', nI n, sc, a1, a2, a3', a4', a5', a6)) :
    wpX_gatherAllowed post (dr, nI nr, wc, pc, ac, sc, a1, a2, a3, a4, a5, a6) := by
  refine pk_loop (σ := Int32 × Int32 × Nat × (Nat → Int32) × (Nat → Int32) × (Nat → Int32))
    (fun k i q => wX_gatherAllowed_7 post k (nI i) dr (nI nr) q.1 q.2.1 (nI q.2.2.1) sc a1 a2 q.2.2.2.1 q.2.2.2.2.1 q.2.2.2.2.2 a6)
    (fun i q => ra_R tp bt q.2.2.2.2.2 q.2.2.1 (ra_alm iv act i)) nr 0 (wc, pc, 0, a3, a4, a5) (by omega) ?_ ?_ ?_
  · exact ra_R_0
  · intro k q h
    exact pk_le nr nr (fun _ => H q.2.2.1 q.1 q.2.1 q.2.2.2.1 q.2.2.2.2.1 q.2.2.2.2.2 h) (fun z => absurd z (by omega))
  · intro k i q hi h hw
    obtain ⟨ha1, ha2⟩ := ha i hi
    have hq : q.2.2.1 ≤ 8 := Nat.le_trans (ra_R_len hp hb h) (ra_alm_sum iv act i)
    refine pk_le nr i (fun z => absurd z (by omega)) (fun _ => ⟨pk_in i 10 (by omega), ?_⟩)
    refine pk_eq (act i) 0 (fun z => ?_) (fun z => ?_) (by rw [nI_clamp (show i < 2 ^ 31 by omega)]; exact ha2) rfl (by omega) (by omega)
    · refine nm_r (nI_1 i) (hw q (ra_R_m h (fun s _ => ?_)))
      show ra_alm iv act i s = ra_alm iv act i s + (if act i = 0 then 0 else ra_own iv i s)
      rw [if_pos z]
      rfl
    · refine ra_carveOwned hp hb hi hnr rfl hr (fun n pc' a3' a4' hR => ?_)
      have hn : n ≤ 8 := Nat.le_trans (ra_R_len hp hb hR) (ra_cut_sum _ _ _ _)
      refine ra_g34 hp hb hR h (by omega) (fun a5' h5 => hw (nI n, pc', q.2.2.1 + n, a3', a4', a5') (ra_R_m h5 (fun s _ => ?_)))
      show ra_alm iv act i s + ra_own iv i s = ra_alm iv act i s + (if act i = 0 then 0 else ra_own iv i s)
      rw [if_neg z]
theorem ra_save {post : Int32 → St2 → Prop} {tp bt nr : Nat} {iv : Nat → Nat × Nat} {act : Nat → Nat} (hp : tp < 16) (hb : bt < 2) (hnr : nr ≤ 10) (hr : ra_ru tp bt a1 nr iv) (ha : ∀ j, j < nr → act j < 2 ∧ a2 j = nI (act j))
    (H : ∀ n wc' pc' a3' a4' a5' a6', ra_R tp bt a6' n (ra_alm iv act nr) → post (nI (ra_sum (ra_alm iv act nr) 8 * (tp + 1))) (dr, nI nr, wc', pc', nI n, nI n, a1, a2, a3', a4', a5', a6')) :
    wpX_save post (dr, nI nr, wc, pc, ac, sc, a1, a2, a3, a4, a5, a6) := by
  unfold wpX_save
  dsimp only
  refine ra_gather hp hb hnr hr ha (fun n wc' pc' a3' a4' a5' hR => ?_)
  have hn : n ≤ 8 := Nat.le_trans (ra_R_len hp hb hR) (ra_alm_sum iv act nr)
  have key : ∃ k, wX_save_8 post dr (nI nr) wc' pc' (nI n) sc k (nI (ra_V a5' 0 * (tp + 1))) (nI 0) a1 a2 a3' a4' a5' a6 := by
    refine pk_loop (fun k i b => wX_save_8 post dr (nI nr) wc' pc' (nI n) sc k (nI (ra_V a5' i * (tp + 1))) (nI i) a1 a2 a3' a4' a5' b) (fun i b => ∀ j, j < i → b j = a5' j) n 0 a6 (by omega) (fun j hj => absurd hj (by omega)) ?_ ?_
    · intro k b h
      rw [ra_V_m hR]
      exact pk_le n n (fun _ => H n wc' pc' a3' a4' a5' b (ra_R_arr hR h)) (fun z => absurd z (by omega))
    · intro k i b hi h hw
      obtain ⟨f, t, hf, ht, e⟩ := hR.1 i hi
      refine pk_le n i (fun z => absurd z (by omega)) (fun _ => ⟨pk_in i 512 (by omega), pk_in i 512 (by omega), nm_e ⟨pk_in i 512 (by omega), ?_⟩⟩)
      refine ra_volume hp hb hf ht (by rw [nI_clamp (show i < 2 ^ 31 by omega)]; exact e) (nm_r ?_ (nm_r (nI_1 i) (hw _ (ra_fill (nI_clamp (by omega)) h (by rw [nI_clamp (by omega)])))))
      rw [nI_add, ← Nat.add_mul, ra_V_s hp hb hf ht e]
  rw [ra_V_0] at key
  exact key
end
end
section
/-! ===== fault, remove ===== -/
/-- later rules decide what rule 1 owns (m) in the same way -/
def ra_rp (iv : Nat → Nat × Nat) (act : Nat → Nat) (m : Nat → Nat) : Prop :=
  (act 2 = act 1 ∨ ∀ s, s < 8 → (iv 2).1 ≤ s ∧ s ≤ (iv 2).2 → m s = 0) ∧ (act 1 = 0 ∨ ∀ s, s < 8 → ¬ ((iv 2).1 ≤ s ∧ s ≤ (iv 2).2) → m s = 0)
/-- what fault answers: X: rule 1 owns nothing, Y: it is replaceable -/
def ra_fc (r : Int32) (X Y : Prop) : Prop := ((r = 1 ∨ r = 2) ↔ X) ∧ (r = 3 ↔ ¬ X ∧ Y)
theorem ra_fc1 {X Y : Prop} (h : X) : ra_fc 1 X Y := ⟨⟨fun _ => h, fun _ => Or.inl rfl⟩, ⟨fun z => absurd z (by decide), fun z => absurd h z.1⟩⟩
theorem ra_fc2 {X Y : Prop} (h : X) : ra_fc 2 X Y := ⟨⟨fun _ => h, fun _ => Or.inr rfl⟩, ⟨fun z => absurd z (by decide), fun z => absurd h z.1⟩⟩
theorem ra_fc3 {X Y : Prop} (h : ¬ X) (g : Y) : ra_fc 3 X Y := ⟨⟨fun z => absurd z (by decide), fun z => absurd z h⟩, ⟨fun _ => ⟨h, g⟩, fun _ => rfl⟩⟩
theorem ra_fcn {X Y : Prop} (h : ¬ X) (g : ¬ Y) {r : Int32} (hr : r = 0 ∨ r = 4 ∨ r = 5) : ra_fc r X Y := by
  have h1 : ¬ (r = 1 ∨ r = 2) := by rcases hr with e | e | e <;> rw [e] <;> decide
  have h3 : ¬ r = 3 := by rcases hr with e | e | e <;> rw [e] <;> decide
  exact ⟨⟨fun z => absurd z h1, fun z => absurd z h⟩, ⟨fun z => absurd z h3, fun z => absurd z.2 g⟩⟩
theorem ra_ne3 {x : Nat} (h : x < 2 ^ 31) : ¬ nI x = (-3) := fun z => nI_pos h (by rw [z]; decide)

section
variable {dr rc wc pc ac sc : Int32} {a1 a2 a3 a4 a5 a6 : Nat → Int32}
theorem ra_meetsA {post : Int32 → Prop} {u : St2} {x y : Int32} (H0 : post 0) (H1 : post 1) : wpX_meets post u x y := by
  obtain ⟨f1, f2, f3, f4, f5, f6, g1, g2, g3, g4, g5, g6⟩ := u
  exact br_c (fun _ => H0) (fun _ => br_c (fun _ => br_c (fun _ => H0) (fun _ => br_c (fun _ => br_c (fun _ => H0) (fun _ => br_c (fun _ => H0) (fun _ => H1))) (fun _ => H0))) (fun _ => H0))
theorem ra_o32 {post : Int32 → St2 → Prop} {J : Int32 → Int32 → Int32 → Int32 → Int32 → Int32 → Int32 → (Nat → Int32) → (Nat → Int32) → (Nat → Int32) → (Nat → Int32) → (Nat → Int32) → (Nat → Int32) → Prop} {n i j : Nat} (hn : n ≤ 8) (hi : i < 10)
    (H0 : J (nI (j + 1)) dr rc (nI n) pc ac sc a1 a2 a3 a4 a5 a6) (H1 : post 1 (dr, rc, nI n, pc, ac, sc, a1, a2, a3, a4, a5, a6)) :
    ∃ fu, wX_overruled_32 post J (nI i) (nI j) dr rc (nI n) pc ac sc a1 a2 a3 a4 a5 a6 fu 0 :=
  pk_loop (σ := Unit) (fun k l _ => wX_overruled_32 post J (nI i) (nI j) dr rc (nI n) pc ac sc a1 a2 a3 a4 a5 a6 k (nI l)) (fun _ _ => True) n 0 () (by omega) trivial
    (fun k _ _ => pk_le n n (fun _ => nm_r (nI_1 j) H0) (fun z => absurd z (by omega)))
    (fun k l _ hl _ hw => pk_le n l (fun z => absurd z (by omega)) (fun _ => ⟨pk_in l 512 (by omega), pk_in i 10 hi, ra_meetsA (br_t rfl (nm_r (nI_1 l) (hw () trivial))) (br_f (by decide) H1)⟩))
theorem ra_overruled {post : Int32 → St2 → Prop} {tp bt i nr : Nat} {iv : Nat → Nat × Nat} {x : Int32} (hp : tp < 16) (hb : bt < 2) (hi : i < nr) (hnr : nr ≤ 10) (hx : x = nI i) (hr : ra_ru tp bt a1 nr iv)
    (H0 : ∀ wc' pc' a3' a4', post 0 (dr, rc, wc', pc', ac, sc, a1, a2, a3', a4', a5, a6)) (H1 : ∀ wc' pc' a3' a4', post 1 (dr, rc, wc', pc', ac, sc, a1, a2, a3', a4', a5, a6)) :
    wpX_overruled post (dr, rc, wc, pc, ac, sc, a1, a2, a3, a4, a5, a6) x := by
  subst hx
  refine pk_loop (σ := Int32 × Int32 × (Nat → Int32) × (Nat → Int32)) (fun k j q => wX_overruled_2 post (nI i) k (nI j) dr rc q.1 q.2.1 ac sc a1 a2 q.2.2.1 q.2.2.2 a5 a6) (fun _ _ => True) i 0 (wc, pc, a3, a4) (by omega) trivial ?_ ?_
  · intro k q _
    exact pk_le i i (fun _ => H0 _ _ _ _) (fun z => absurd z (by omega))
  · intro k j q hj _ hw
    refine pk_le i j (fun z => absurd z (by omega)) (fun _ => ⟨pk_in j 10 (by omega), pk_in i 10 (by omega), br_c (fun _ => nm_r (nI_1 j) (hw q trivial)) (fun _ => ?_)⟩)
    refine ra_carveOwned hp hb (show j < nr by omega) hnr rfl hr (fun n pc' a3' a4' hR => ?_)
    have hn : n ≤ 8 := Nat.le_trans (ra_R_len hp hb hR) (ra_cut_sum _ _ _ _)
    exact ra_o32 hn (by omega) (hw (nI n, pc', a3', a4') trivial) (H1 _ _ _ _)
theorem ra_r64 {post : Int32 → St2 → Prop} {tp bt n k : Nat} {iv : Nat → Nat × Nat} {act : Nat → Nat} {m : Nat → Nat} (hp : tp < 16) (hb : bt < 2) (hr : ra_ru tp bt a1 3 iv) (ha : ∀ j, j < 3 → act j < 2 ∧ a2 j = nI (act j)) (hR : ra_R tp bt a3 n m) (hm : ra_sum m 8 ≤ 8)
    (hP : act 2 = act 1 ∨ ∀ s, s < 8 → (iv 2).1 ≤ s ∧ s ≤ (iv 2).2 → m s = 0)
    (H0 : ¬ ra_rp iv act m → ∀ wc' pc' a3' a4', post 0 (dr, nI 3, wc', pc', ac, sc, a1, a2, a3', a4', a5, a6)) (H1 : ra_rp iv act m → ∀ wc' pc' a3' a4', post 1 (dr, nI 3, wc', pc', ac, sc, a1, a2, a3', a4', a5, a6)) :
    wX_replaceable_64 post (wX_replaceable_4 post (nI 1) (k + 1)) (nI 1) (nI 2) dr (nI 3) (nI n) pc ac sc a1 a2 a3 a4 a5 a6 := by
  obtain ⟨hf, ht, e⟩ := hr 2 (by omega)
  obtain ⟨b1, b2⟩ := ha 1 (by omega)
  refine ⟨pk_in 2 10 (by omega), ?_⟩
  refine ra_subtract hp hb hf ht (by rw [nI_clamp (show 2 < 2 ^ 31 by omega)]; exact e) hR hm (fun n' a3' a4' hR' => nm_r (nI_1 2) ?_)
  have hz := ra_R_nil hp hb hR'
  have hn' : n' ≤ 8 := Nat.le_trans (ra_R_len hp hb hR') (Nat.le_trans (ra_sum_le (fun s _ => by show (if (iv 2).1 ≤ s ∧ s ≤ (iv 2).2 then 0 else m s) ≤ m s; split <;> omega)) hm)
  have hq : (∀ s, s < 8 → ¬ ((iv 2).1 ≤ s ∧ s ≤ (iv 2).2) → m s = 0) ↔ n' = 0 := by
    rw [hz]
    constructor
    · intro h
      refine ra_sum_0 (fun s hs => ?_)
      show (if (iv 2).1 ≤ s ∧ s ≤ (iv 2).2 then 0 else m s) = 0
      split
      · rfl
      · exact h s hs (by assumption)
    · intro h s hs hc
      have h2 : (if (iv 2).1 ≤ s ∧ s ≤ (iv 2).2 then 0 else m s) = 0 := ra_sum_z h s hs
      rw [if_neg hc] at h2
      exact h2
  refine pk_le 3 3 (fun _ => ?_) (fun z => absurd z (by omega))
  refine pk_eq n' 0 (fun z => H1 ⟨hP, Or.inr (hq.mpr z)⟩ _ _ _ _) (fun z => ⟨pk_in 1 10 (by omega), ?_⟩)
  refine pk_eq (act 1) 0 (fun z2 => H1 ⟨hP, Or.inl z2⟩ _ _ _ _) (fun z2 => H0 (fun g => ?_) _ _ _ _) (by rw [nI_clamp (show 1 < 2 ^ 31 by omega)]; exact b2) rfl (by omega) (by omega)
  rcases g.2 with g | g
  · exact z2 g
  · exact z (hq.mp g)
theorem ra_r29 {post : Int32 → St2 → Prop} {tp bt n k : Nat} {iv : Nat → Nat × Nat} {act : Nat → Nat} {m : Nat → Nat} (hp : tp < 16) (hb : bt < 2) (hr : ra_ru tp bt a1 3 iv) (ha : ∀ j, j < 3 → act j < 2 ∧ a2 j = nI (act j)) (hR : ra_R tp bt a3 n m) (hm : ra_sum m 8 ≤ 8)
    (hne : act 2 ≠ act 1)
    (H0 : ¬ ra_rp iv act m → ∀ wc' pc' a3' a4', post 0 (dr, nI 3, wc', pc', ac, sc, a1, a2, a3', a4', a5, a6)) (H1 : ra_rp iv act m → ∀ wc' pc' a3' a4', post 1 (dr, nI 3, wc', pc', ac, sc, a1, a2, a3', a4', a5, a6)) :
    ∃ fu, wX_replaceable_29 post (wX_replaceable_4 post (nI 1) (k + 1)) (nI 1) (nI 2) dr (nI 3) (nI n) pc ac sc a1 a2 a3 a4 a5 a6 fu 0 := by
  have hn : n ≤ 8 := Nat.le_trans (ra_R_len hp hb hR) hm
  obtain ⟨hcf, hct, ec⟩ := hr 2 (by omega)
  refine pk_loop (σ := Unit) (fun q l _ => wX_replaceable_29 post (wX_replaceable_4 post (nI 1) (k + 1)) (nI 1) (nI 2) dr (nI 3) (nI n) pc ac sc a1 a2 a3 a4 a5 a6 q (nI l)) (fun l _ => ∀ s, (iv 2).1 ≤ s ∧ s ≤ (iv 2).2 → ra_M a3 l s = 0) n 0 () (by omega) (fun s _ => rfl) ?_ ?_
  · intro q _ h
    exact pk_le n n (fun _ => ra_r64 hp hb hr ha hR hm (Or.inr (fun s hs hc => by rw [← hR.2 s hs]; exact h s hc)) H0 H1) (fun z => absurd z (by omega))
  · intro q l _ hl h hw
    obtain ⟨f, t, hf, ht, e⟩ := hR.1 l hl
    refine pk_le n l (fun z => absurd z (by omega)) (fun _ => ⟨pk_in l 512 (by omega), pk_in 2 10 (by omega), ?_⟩)
    rw [nI_clamp (show l < 2 ^ 31 by omega), nI_clamp (show 2 < 2 ^ 31 by omega), e, ec]
    refine ra_meets (ra_bx_is hp hb (by omega) (by omega)) (ra_bx_is hp hb (by omega) (by omega)) (fun z => ?_) (fun z => ?_)
    · refine br_t rfl (nm_r (nI_1 l) (hw () (fun s hc => ?_)))
      rw [ra_M_s, e, ra_c_bx hp hb (by omega) (by omega), h s hc, ra_i1_f (by omega)]
    · refine br_f (by decide) (H0 (fun g => ?_) _ _ _ _)
      have hs : ∃ s, s < 8 ∧ ((iv 2).1 ≤ s ∧ s ≤ (iv 2).2) ∧ f ≤ s ∧ s ≤ t := by
        rcases Nat.le_total f (iv 2).1 with y | y
        · exact ⟨(iv 2).1, by omega, ⟨Nat.le_refl _, hcf⟩, y, z.2.1⟩
        · exact ⟨f, by omega, ⟨y, z.1⟩, Nat.le_refl _, hf⟩
      obtain ⟨s, hs, hc, h1, h2⟩ := hs
      have k1 : ra_M a3 (l + 1) s ≤ ra_M a3 n s := ra_M_up (by omega)
      rw [ra_M_s, e, ra_c_bx hp hb (by omega) (by omega), ra_i1_t ⟨h1, h2⟩, hR.2 s hs] at k1
      rcases g.1 with g | g
      · exact hne g
      · have := g s hs hc
        omega
theorem ra_replaceable {post : Int32 → St2 → Prop} {tp bt n : Nat} {iv : Nat → Nat × Nat} {act : Nat → Nat} {m : Nat → Nat} {x : Int32} (hp : tp < 16) (hb : bt < 2) (hr : ra_ru tp bt a1 3 iv) (ha : ∀ j, j < 3 → act j < 2 ∧ a2 j = nI (act j)) (hR : ra_R tp bt a3 n m) (hm : ra_sum m 8 ≤ 8) (hx : x = nI 1)
    (H0 : ¬ ra_rp iv act m → ∀ wc' pc' a3' a4', post 0 (dr, nI 3, wc', pc', ac, sc, a1, a2, a3', a4', a5, a6)) (H1 : ra_rp iv act m → ∀ wc' pc' a3' a4', post 1 (dr, nI 3, wc', pc', ac, sc, a1, a2, a3', a4', a5, a6)) :
    wpX_replaceable post (dr, nI 3, nI n, pc, ac, sc, a1, a2, a3, a4, a5, a6) x := by
  subst hx
  obtain ⟨b1, b2⟩ := ha 1 (by omega)
  obtain ⟨c1, c2⟩ := ha 2 (by omega)
  refine nm_r (nI_1 1) ⟨0 + 1 + 1, ?_⟩
  refine pk_le 3 2 (fun z => absurd z (by omega)) (fun _ => ⟨pk_in 2 10 (by omega), pk_in 1 10 (by omega), ?_⟩)
  refine pk_eq (act 2) (act 1) (fun z => ?_) (fun z => ?_) (by rw [nI_clamp (show 2 < 2 ^ 31 by omega)]; exact c2) (by rw [nI_clamp (show 1 < 2 ^ 31 by omega)]; exact b2) (by omega) (by omega)
  · exact ra_r64 hp hb hr ha hR hm (Or.inl z) H0 H1
  · exact ra_r29 hp hb hr ha hR hm z H0 H1
theorem ra_f50 {post : Int32 → St2 → Prop} {i : Nat} {x1 x2 : Int32} (hi : i < 10) (hx : x1 = nI i) (H : ∀ r, (r = 0 ∨ r = 4 ∨ r = 5) → post r (dr, rc, wc, pc, ac, sc, a1, a2, a3, a4, a5, a6)) :
    ∃ fu, wX_fault_50 post x1 dr rc wc pc ac sc a1 a2 a3 a4 a5 a6 fu x2 0 := by
  subst hx
  exact pk_loop (fun k j x => wX_fault_50 post (nI i) dr rc wc pc ac sc a1 a2 a3 a4 a5 a6 k x (nI j)) (fun _ _ => True) i 0 x2 (by omega) trivial
    (fun k x _ => pk_le i i (fun _ => br_c (fun _ => H 0 (Or.inl rfl)) (fun _ => H 5 (Or.inr (Or.inr rfl)))) (fun z => absurd z (by omega)))
    (fun k j x hj _ hw => pk_le i j (fun z => absurd z (by omega)) (fun _ => ⟨pk_in j 10 (by omega), pk_in i 10 hi, br_c (fun _ => nm_r (nI_1 j) (hw x trivial)) (fun _ => ⟨pk_in i 10 hi, pk_in j 10 (by omega), ra_meetsA (br_t rfl (nm_r (nI_1 j) (hw x trivial))) (br_f (by decide) ⟨pk_in j 10 (by omega), pk_in i 10 hi, ra_within (br_t rfl ⟨pk_in i 10 hi, pk_in j 10 (by omega), ra_within (br_t rfl (H 4 (Or.inr (Or.inl rfl)))) (br_f (by decide) (nm_r (nI_1 j) (hw x trivial)))⟩) (br_f (by decide) (nm_r (nI_1 j) (hw 1 trivial)))⟩)⟩)⟩))
theorem ra_fault {post : Int32 → St2 → Prop} {tp bt : Nat} {iv : Nat → Nat × Nat} {act : Nat → Nat} {x : Int32} (hp : tp < 16) (hb : bt < 2) (hr : ra_ru tp bt a1 3 iv) (ha : ∀ j, j < 3 → act j < 2 ∧ a2 j = nI (act j)) (hx : x = nI 1)
    (H : ∀ r wc' pc' a3' a4', ra_fc r (ra_sum (ra_own iv 1) 8 = 0) (ra_rp iv act (ra_own iv 1)) → post r (dr, nI 3, wc', pc', ac, sc, a1, a2, a3', a4', a5, a6)) :
    wpX_fault post (dr, nI 3, wc, pc, ac, sc, a1, a2, a3, a4, a5, a6) x := by
  unfold wpX_fault
  dsimp only
  refine ra_isRule (by omega) (by omega) hx (br_f (by decide) ?_)
  refine ra_carveOwned hp hb (show 1 < 3 by omega) (by omega) hx hr (fun n pc' a3' a4' hR => ?_)
  have hz := ra_R_nil hp hb hR
  have hn : n ≤ 8 := Nat.le_trans (ra_R_len hp hb hR) (ra_cut_sum _ _ _ _)
  refine pk_eq n 0 (fun z => ?_) (fun z => ?_)
  · exact ra_overruled hp hb (show 1 < 3 by omega) (by omega) hx hr (fun _ _ _ _ => br_t rfl (H 2 _ _ _ _ (ra_fc2 (hz.mp z)))) (fun _ _ _ _ => br_f (by decide) (H 1 _ _ _ _ (ra_fc1 (hz.mp z))))
  · have hz' : ¬ ra_sum (ra_own iv 1) 8 = 0 := fun g => z (hz.mpr g)
    exact ra_replaceable hp hb hr ha hR (ra_cut_sum _ _ _ _) hx (fun g _ _ _ _ => br_t rfl (ra_f50 (by omega) hx (fun r hrr => H r _ _ _ _ (ra_fcn hz' g hrr)))) (fun g _ _ _ _ => br_f (by decide) (H 3 _ _ _ _ (ra_fc3 hz' g)))
theorem ra_remove {post : Int32 → St2 → Prop} (H : ∀ b1 b2, b1 0 = a1 0 → b1 1 = a1 2 → b2 0 = a2 0 → b2 1 = vp_nar .byte (a2 2) → post (nI 2) (dr, nI 2, wc, pc, ac, sc, b1, b2, a3, a4, a5, a6)) :
    wpX_remove post (dr, nI 3, wc, pc, ac, sc, a1, a2, a3, a4, a5, a6) 1 := by
  unfold wpX_remove
  dsimp only
  refine ra_isRule (i := 1) (by omega) (by omega) rfl (br_f (by decide) (nm_r (nI_pred 2) ⟨0 + 1 + 1, ?_⟩))
  refine pk_le 2 1 (fun z => absurd z (by omega)) (fun _ => ⟨pk_in 2 10 (by omega), pk_in 1 10 (by omega), nm_e ⟨pk_in 2 10 (by omega), pk_in 1 10 (by omega), nm_e (nm_r (e' := nI 2) rfl ?_)⟩⟩)
  refine pk_le 2 2 (fun _ => ?_) (fun z => absurd z (by omega))
  exact H _ _ rfl rfl rfl rfl
end
end
section
/-! ===== what has changed ===== -/
section
variable {dr rc wc pc ac sc : Int32} {a1 a2 a3 a4 a5 a6 : Nat → Int32}
/-- one more box of the other list is taken out -/
theorem ra_nw1 {tp bt i cf ct : Nat} {b : Nat → Int32} (hp : tp < 16) (hb : bt < 2) (hc : cf ≤ ct) (hct : ct < 8) (e : b i = ra_bx tp bt cf ct) (m : Nat → Nat) (s : Nat) :
    (if cf ≤ s ∧ s ≤ ct then 0 else if ra_M b i s = 0 then m s else 0) = if ra_M b (i + 1) s = 0 then m s else 0 := by
  rw [ra_M_s, e, ra_c_bx hp hb (by omega) (by omega)]
  by_cases h : cf ≤ s ∧ s ≤ ct
  · rw [if_pos h, ra_i1_t h, if_neg (by omega)]
  · rw [if_neg h, ra_i1_f h]
    rfl
/-- an early end: nothing was left -/
theorem ra_nw2 {tp bt i n : Nat} {b c : Nat → Int32} {m m0 : Nat → Nat} (h6 : ra_R tp bt b n m0) (hi : i ≤ n) (h : ra_R tp bt c 0 (fun s => if ra_M b i s = 0 then m s else 0)) : ra_R tp bt c 0 (fun s => if m0 s = 0 then m s else 0) := by
  refine ra_R_m h (fun s hs => ?_)
  have h1 : ra_M b i s ≤ ra_M b n s := ra_M_up hi
  have h2 := h6.2 s hs
  have h3 : 0 = if ra_M b i s = 0 then m s else 0 := h.2 s hs
  show (if ra_M b i s = 0 then m s else 0) = if m0 s = 0 then m s else 0
  by_cases g : m0 s = 0
  · rw [if_pos g, if_pos (by omega)]
  · rw [if_neg g]
    exact h3.symm
theorem ra_nw3 {tp bt n : Nat} {b c : Nat → Int32} {m m0 : Nat → Nat} {q : Nat} (h6 : ra_R tp bt b n m0) (h : ra_R tp bt c q (fun s => if ra_M b n s = 0 then m s else 0)) : ra_R tp bt c q (fun s => if m0 s = 0 then m s else 0) :=
  ra_R_m h (fun s hs => by show (if ra_M b n s = 0 then m s else 0) = if m0 s = 0 then m s else 0; rw [h6.2 s hs])
theorem ra_nwS {m : Nat → Nat} {p : Nat → Nat} (hm : ra_sum m 8 ≤ 8) : ra_sum (fun s => if p s = 0 then m s else 0) 8 ≤ 8 := by
  refine Nat.le_trans (ra_sum_le (fun s _ => ?_)) hm
  show (if p s = 0 then m s else 0) ≤ m s
  split <;> omega
theorem ra_nw38 {post : St2 → Prop} {tp bt ns n0 : Nat} {m m0 : Nat → Nat} (hp : tp < 16) (hb : bt < 2) (h3 : ra_R tp bt a3 n0 m) (h6 : ra_R tp bt a6 ns m0) (hm : ra_sum m 8 ≤ 8) (hm0 : ra_sum m0 8 ≤ 8)
    (H : ∀ n pc' a3' a4', ra_R tp bt a3' n (fun s => if m0 s = 0 then m s else 0) → post (dr, rc, nI n, pc', ac, nI ns, a1, a2, a3', a4', a5, a6)) :
    ∃ fu, wX_carveNewlyAllowed_38 post fu 0 dr rc (nI n0) pc ac (nI ns) a1 a2 a3 a4 a5 a6 := by
  have hns : ns ≤ 8 := Nat.le_trans (ra_R_len hp hb h6) hm0
  refine pk_loop (σ := Nat × Int32 × (Nat → Int32) × (Nat → Int32)) (fun k i q => wX_carveNewlyAllowed_38 post k (nI i) dr rc (nI q.1) q.2.1 ac (nI ns) a1 a2 q.2.2.1 q.2.2.2 a5 a6)
    (fun i q => ra_R tp bt q.2.2.1 q.1 (fun s => if ra_M a6 i s = 0 then m s else 0)) ns 0 (n0, pc, a3, a4) (by omega) ?_ ?_ ?_
  · exact ra_R_m h3 (fun s _ => rfl)
  · intro k q h
    exact pk_le ns ns (fun _ => H q.1 q.2.1 q.2.2.1 q.2.2.2 (ra_nw3 h6 h)) (fun z => absurd z (by omega))
  · intro k i q hi h hw
    obtain ⟨cf, ct, hc, hct, e⟩ := h6.1 i hi
    have hq : q.1 ≤ 8 := Nat.le_trans (ra_R_len hp hb h) (ra_nwS hm)
    refine pk_le ns i (fun z => absurd z (by omega)) (fun _ => ?_)
    refine pk_le q.1 0 (fun z => ?_) (fun z => ⟨pk_in i 512 (by omega), ?_⟩)
    · have z0 : q.1 = 0 := by omega
      have h' := h
      rw [z0] at h'
      refine H q.1 q.2.1 q.2.2.1 q.2.2.2 ?_
      rw [z0]
      exact ra_nw2 h6 (by omega) h'
    · refine ra_subtract hp hb hc hct (by rw [nI_clamp (show i < 2 ^ 31 by omega)]; exact e) h (ra_nwS hm) (fun n' a3' a4' hR' => nm_r (nI_1 i) (hw (n', nI n', a3', a4') ?_))
      exact ra_R_m hR' (fun s _ => ra_nw1 hp hb hc hct e m s)
theorem ra_newly {post : St2 → Prop} {tp bt na ns : Nat} {m m0 : Nat → Nat} (hp : tp < 16) (hb : bt < 2) (h5 : ra_R tp bt a5 na m) (h6 : ra_R tp bt a6 ns m0) (hm : ra_sum m 8 ≤ 8) (hm0 : ra_sum m0 8 ≤ 8)
    (H : ∀ n pc' a3' a4', ra_R tp bt a3' n (fun s => if m0 s = 0 then m s else 0) → post (dr, rc, nI n, pc', nI na, nI ns, a1, a2, a3', a4', a5, a6)) :
    wpX_carveNewlyAllowed post (dr, rc, wc, pc, nI na, nI ns, a1, a2, a3, a4, a5, a6) := by
  have hna : na ≤ 8 := Nat.le_trans (ra_R_len hp hb h5) hm
  exact pk_loop (fun k i b => wX_carveNewlyAllowed_2 post dr rc wc pc (nI na) (nI ns) k (nI i) a1 a2 b a4 a5 a6) (fun i b => ∀ j, j < i → b j = a5 j) na 0 a3 (by omega) (fun j hj => absurd hj (by omega))
    (fun k b h => pk_le na na (fun _ => ra_nw38 hp hb (ra_R_arr h5 h) h6 hm hm0 H) (fun z => absurd z (by omega)))
    (fun k i b hi h hw => pk_le na i (fun z => absurd z (by omega)) (fun _ => ⟨pk_in i 512 (by omega), pk_in i 512 (by omega), nm_e (nm_r (nI_1 i) (hw _ (ra_fill (nI_clamp (by omega)) h (by rw [nI_clamp (by omega)]))))⟩))
theorem ra_nl38 {post : St2 → Prop} {tp bt na n0 : Nat} {m m0 : Nat → Nat} (hp : tp < 16) (hb : bt < 2) (h3 : ra_R tp bt a3 n0 m) (h5 : ra_R tp bt a5 na m0) (hm : ra_sum m 8 ≤ 8) (hm0 : ra_sum m0 8 ≤ 8)
    (H : ∀ n pc' a3' a4', ra_R tp bt a3' n (fun s => if m0 s = 0 then m s else 0) → post (dr, rc, nI n, pc', nI na, sc, a1, a2, a3', a4', a5, a6)) :
    ∃ fu, wX_carveNoLongerAllowed_38 post fu 0 dr rc (nI n0) pc (nI na) sc a1 a2 a3 a4 a5 a6 := by
  have hns : na ≤ 8 := Nat.le_trans (ra_R_len hp hb h5) hm0
  refine pk_loop (σ := Nat × Int32 × (Nat → Int32) × (Nat → Int32)) (fun k i q => wX_carveNoLongerAllowed_38 post k (nI i) dr rc (nI q.1) q.2.1 (nI na) sc a1 a2 q.2.2.1 q.2.2.2 a5 a6)
    (fun i q => ra_R tp bt q.2.2.1 q.1 (fun s => if ra_M a5 i s = 0 then m s else 0)) na 0 (n0, pc, a3, a4) (by omega) ?_ ?_ ?_
  · exact ra_R_m h3 (fun s _ => rfl)
  · intro k q h
    exact pk_le na na (fun _ => H q.1 q.2.1 q.2.2.1 q.2.2.2 (ra_nw3 h5 h)) (fun z => absurd z (by omega))
  · intro k i q hi h hw
    obtain ⟨cf, ct, hc, hct, e⟩ := h5.1 i hi
    have hq : q.1 ≤ 8 := Nat.le_trans (ra_R_len hp hb h) (ra_nwS hm)
    refine pk_le na i (fun z => absurd z (by omega)) (fun _ => ?_)
    refine pk_le q.1 0 (fun z => ?_) (fun z => ⟨pk_in i 512 (by omega), ?_⟩)
    · have z0 : q.1 = 0 := by omega
      have h' := h
      rw [z0] at h'
      refine H q.1 q.2.1 q.2.2.1 q.2.2.2 ?_
      rw [z0]
      exact ra_nw2 h5 (by omega) h'
    · refine ra_subtract hp hb hc hct (by rw [nI_clamp (show i < 2 ^ 31 by omega)]; exact e) h (ra_nwS hm) (fun n' a3' a4' hR' => nm_r (nI_1 i) (hw (n', nI n', a3', a4') ?_))
      exact ra_R_m hR' (fun s _ => ra_nw1 hp hb hc hct e m s)
theorem ra_nolong {post : St2 → Prop} {tp bt na ns : Nat} {m m0 : Nat → Nat} (hp : tp < 16) (hb : bt < 2) (h6 : ra_R tp bt a6 ns m) (h5 : ra_R tp bt a5 na m0) (hm : ra_sum m 8 ≤ 8) (hm0 : ra_sum m0 8 ≤ 8)
    (H : ∀ n pc' a3' a4', ra_R tp bt a3' n (fun s => if m0 s = 0 then m s else 0) → post (dr, rc, nI n, pc', nI na, nI ns, a1, a2, a3', a4', a5, a6)) :
    wpX_carveNoLongerAllowed post (dr, rc, wc, pc, nI na, nI ns, a1, a2, a3, a4, a5, a6) := by
  have hns : ns ≤ 8 := Nat.le_trans (ra_R_len hp hb h6) hm
  exact pk_loop (fun k i b => wX_carveNoLongerAllowed_2 post dr rc wc pc (nI na) (nI ns) k (nI i) a1 a2 b a4 a5 a6) (fun i b => ∀ j, j < i → b j = a6 j) ns 0 a3 (by omega) (fun j hj => absurd hj (by omega))
    (fun k b h => pk_le ns ns (fun _ => ra_nl38 hp hb (ra_R_arr h6 h) h5 hm hm0 H) (fun z => absurd z (by omega)))
    (fun k i b hi h hw => pk_le ns i (fun z => absurd z (by omega)) (fun _ => ⟨pk_in i 512 (by omega), pk_in i 512 (by omega), nm_e (nm_r (nI_1 i) (hw _ (ra_fill (nI_clamp (by omega)) h (by rw [nI_clamp (by omega)]))))⟩))
theorem ra_changed {post : Int32 → St2 → Prop} {tp bt nr ns : Nat} {iv : Nat → Nat × Nat} {act : Nat → Nat} {m0 : Nat → Nat} (hp : tp < 16) (hb : bt < 2) (hnr : nr ≤ 10) (hr : ra_ru tp bt a1 nr iv) (ha : ∀ j, j < nr → act j < 2 ∧ a2 j = nI (act j)) (h6 : ra_R tp bt a6 ns m0) (hm0 : ra_sum m0 8 ≤ 8)
    (H : ∀ n wc' pc' a3' a4' a5', post (nI ((ra_sum (fun s => if m0 s = 0 then ra_alm iv act nr s else 0) 8 + ra_sum (fun s => if ra_alm iv act nr s = 0 then m0 s else 0) 8) * (tp + 1))) (dr, nI nr, wc', pc', n, nI ns, a1, a2, a3', a4', a5', a6)) :
    wpX_changed post (dr, nI nr, wc, pc, ac, nI ns, a1, a2, a3, a4, a5, a6) := by
  have hA := ra_alm_sum iv act nr
  unfold wpX_changed
  dsimp only
  refine ra_gather hp hb hnr hr ha (fun na wc1 pc1 a31 a41 a51 h5 => ?_)
  dsimp only
  refine ra_newly hp hb h5 h6 hA hm0 (fun n1 pc2 a32 a42 hN => ?_)
  dsimp only
  refine ra_volW hp hb hN (ra_nwS hA) ?_
  refine ra_nolong hp hb h6 h5 hm0 hA (fun n2 pc3 a33 a43 hO => ?_)
  dsimp only
  refine ra_volW hp hb hO (ra_nwS hm0) ?_
  rw [nI_add, ← Nat.add_mul]
  exact H _ _ _ _ _ _
theorem ra_lowest {post : Int32 → Prop} {tp bt n : Nat} {m m0 : Nat → Nat} {o : Option Nat} {x : Int32} (hp : tp < 16) (hb : bt < 2) (hR : ra_R tp bt a3 n m) (hm : ra_sum m 8 ≤ 8) (ho : ra_il 8 m0 o) (hx : x = ra_lo bt o)
    (H : ∀ o', ra_il 8 (fun s => m0 s + m s) o' → post (ra_lo bt o')) :
    wpX_lowestCorner post (dr, rc, nI n, pc, ac, sc, a1, a2, a3, a4, a5, a6) x := by
  subst hx
  have hn : n ≤ 8 := Nat.le_trans (ra_R_len hp hb hR) hm
  refine pk_loop (fun k i o => wX_lowestCorner_4 post dr rc (nI n) pc ac sc a1 a2 a3 a4 a5 a6 k (ra_lo bt o) (nI i)) (fun i o => ra_il 8 (fun s => m0 s + ra_M a3 i s) o) n 0 o (by omega) ?_ ?_ ?_
  · exact ra_il_m ho (fun s _ => rfl)
  · intro k o h
    exact pk_le n n (fun _ => H o (ra_il_m h (fun s hs => by rw [hR.2 s hs]))) (fun z => absurd z (by omega))
  · intro k i o hi h hw
    obtain ⟨f, t, hf, ht, e⟩ := hR.1 i hi
    obtain ⟨x1, _, x3, _, x5, _⟩ := ra_bx_is (f := f) (t := t) hp hb (by omega) (by omega)
    have ec : ((32 * ra_fS (ra_bx tp bt f t)) + (2 * ra_fD (ra_bx tp bt f t))) + ra_fP (ra_bx tp bt f t) = nI (32 * f + bt) := by
      rw [x1, x3, x5, show (32 : Int32) = nI 32 from rfl, show (2 : Int32) = nI 2 from rfl, pk_mul, pk_mul, nI_add, nI_add, Nat.mul_zero, Nat.add_zero]
    have em : ∀ s, m0 s + ra_M a3 i s + ra_i1 f t s = m0 s + ra_M a3 (i + 1) s := by
      intro s
      rw [ra_M_s, e, ra_c_bx hp hb (by omega) (by omega), Nat.add_assoc]
    refine pk_le n i (fun z => absurd z (by omega)) (fun _ => ⟨pk_in i 512 (by omega), nm_r (show a3 (nI i).toNatClampNeg = ra_bx tp bt f t by rw [nI_clamp (show i < 2 ^ 31 by omega)]; exact e) (nm_r ec ?_)⟩)
    cases o with
    | none =>
      exact br_t rfl (nm_r (nI_1 i) (hw (some f) (ra_il_m (ra_il_none h hf ht) (fun s _ => em s))))
    | some j =>
      have hj := h.1
      refine br_f (ra_ne3 (by omega)) (pk_le (32 * j + bt) (32 * f + bt) (fun z => ?_) (fun z => ?_))
      · exact nm_r (nI_1 i) (hw (some j) (ra_il_m (ra_il_keep h (by omega)) (fun s _ => em s)))
      · exact nm_r (nI_1 i) (hw (some f) (ra_il_m (ra_il_low h (by omega) hf ht) (fun s _ => em s)))
theorem ra_firstChanged {post : Int32 → St2 → Prop} {tp bt nr ns : Nat} {iv : Nat → Nat × Nat} {act : Nat → Nat} {m0 : Nat → Nat} (hp : tp < 16) (hb : bt < 2) (hnr : nr ≤ 10) (hr : ra_ru tp bt a1 nr iv) (ha : ∀ j, j < nr → act j < 2 ∧ a2 j = nI (act j)) (h6 : ra_R tp bt a6 ns m0) (hm0 : ra_sum m0 8 ≤ 8)
    (H : ∀ o n wc' pc' a3' a4' a5', ra_il 8 (fun s => (if m0 s = 0 then ra_alm iv act nr s else 0) + (if ra_alm iv act nr s = 0 then m0 s else 0)) o → post (ra_lo bt o) (dr, nI nr, wc', pc', n, nI ns, a1, a2, a3', a4', a5', a6)) :
    wpX_firstChanged post (dr, nI nr, wc, pc, ac, nI ns, a1, a2, a3, a4, a5, a6) := by
  have hA := ra_alm_sum iv act nr
  unfold wpX_firstChanged
  dsimp only
  refine ra_gather hp hb hnr hr ha (fun na wc1 pc1 a31 a41 a51 h5 => ?_)
  dsimp only
  refine ra_newly hp hb h5 h6 hA hm0 (fun n1 pc2 a32 a42 hN => ?_)
  dsimp only
  refine ra_lowest (o := none) (m0 := fun _ => 0) hp hb hN (ra_nwS hA) (fun _ _ => rfl) rfl (fun o1 ho1 => ?_)
  refine ra_nolong hp hb h6 h5 hm0 hA (fun n2 pc3 a33 a43 hO => ?_)
  dsimp only
  refine ra_lowest (o := o1) hp hb hO (ra_nwS hm0) ho1 rfl (fun o2 ho2 => ?_)
  exact H o2 _ _ _ _ _ _ (ra_il_m ho2 (fun s _ => by rw [Nat.zero_add]))
end
end
section
/-! ===== the law's own methods ===== -/
/-- a word of the script: its interval and its action -/
def ra_wi (w : Int32) (iv : Nat × Nat) (a : Nat) : Prop := ∃ l h : Nat, l < 8 ∧ h < 8 ∧ a < 2 ∧ w &&& 7 = nI l ∧ (w >>> ((3 : Int32) &&& 31)) &&& 7 = nI h ∧ (w >>> ((6 : Int32) &&& 31)) &&& 1 = nI a ∧ iv.1 = min l h ∧ iv.2 = max l h
theorem ra_wi_of (w : Int32) : ∃ iv a, ra_wi w iv a := by
  obtain ⟨l, hl, el⟩ := pk_andE w (m := 7) 3 (by decide)
  obtain ⟨h, hh, eh⟩ := pk_andE (w >>> ((3 : Int32) &&& 31)) (m := 7) 3 (by decide)
  obtain ⟨a, ha, ea⟩ := pk_andE (w >>> ((6 : Int32) &&& 31)) (m := 1) 1 (by decide)
  exact ⟨(min l h, max l h), a, l, h, by omega, by omega, by omega, el, eh, ea, rfl, rfl⟩
theorem ra_wi_iv {w : Int32} {iv : Nat × Nat} {a : Nat} (h : ra_wi w iv a) : iv.1 ≤ iv.2 ∧ iv.2 < 8 ∧ a < 2 := by
  obtain ⟨l, h, hl, hh, ha, _, _, _, e1, e2⟩ := h
  omega
def ra_kI : Nat → Int32
  | 0 => 0
  | 1 => 1
  | 2 => 2
  | _ => -3
theorem ra_kI_eq : ∀ k, k < 4 → ∀ c, c < 3 → (ra_kI k = nI c ↔ k = c) := by decide +kernel
theorem ra_kif {x y : Int32} {A B : Prop} (k c : Nat) (hk : k < 4) (hc : c < 3) (f : k = c → A) (g : k ≠ c → B) (hx : x = ra_kI k := by rfl) (hy : y = nI c := by rfl) : (x = y → A) ∧ (¬ x = y → B) := by
  subst hx hy
  rw [ra_kI_eq k hk c hc]
  exact ⟨f, g⟩
/-- the rule that decides s: 0, 1, 2, or 3 for none -/
def ra_k (iv : Nat → Nat × Nat) (s : Nat) : Nat := if (iv 0).1 ≤ s ∧ s ≤ (iv 0).2 then 0 else if (iv 1).1 ≤ s ∧ s ≤ (iv 1).2 then 1 else if (iv 2).1 ≤ s ∧ s ≤ (iv 2).2 then 2 else 3
theorem ra_k_lt (iv : Nat → Nat × Nat) (s : Nat) : ra_k iv s < 4 := by
  unfold ra_k
  repeat' split
  all_goals omega
def ra_dc (act : Nat → Nat) : Nat → Nat
  | 0 => act 0
  | 1 => act 1
  | 2 => act 2
  | _ => 0
def ra_nx (iv : Nat → Nat × Nat) (s : Nat) : Nat := if ra_k iv s = 1 then (if (iv 2).1 ≤ s ∧ s ≤ (iv 2).2 then 2 else 3) else ra_k iv s
theorem ra_nx_lt (iv : Nat → Nat × Nat) (s : Nat) : ra_nx iv s < 4 := by
  have := ra_k_lt iv s
  unfold ra_nx
  repeat' split
  all_goals omega
def ra_ch (iv : Nat → Nat × Nat) (act : Nat → Nat) (s : Nat) : Nat := if ra_dc act (ra_k iv s) = ra_dc act (ra_nx iv s) then 0 else 1
def ra_e (iv : Nat → Nat × Nat) (c s : Nat) : Nat := if ra_k iv s = c then 1 else 0
def ra_stp (o : Option Nat) (c s : Nat) : Option Nat := match o with
  | some j => some j
  | none => if c = 0 then none else some s

section
variable {dr rc wc pc ac sc : Int32} {a1 a2 a3 a4 a5 a6 : Nat → Int32}
theorem ra_inL {post : Int32 → Prop} {w x : Int32} {iv : Nat × Nat} {a s : Nat} (hw : ra_wi w iv a) (hs : s < 8) (hx : x = nI s) (H1 : iv.1 ≤ s ∧ s ≤ iv.2 → post 1) (H0 : ¬ (iv.1 ≤ s ∧ s ≤ iv.2) → post 0) : wpL_in post () w x := by
  subst hx
  obtain ⟨l, h, hl, hh, ha, el, eh, ea, e1, e2⟩ := hw
  refine nm_r el (nm_r eh (pk_le h l (fun z => ?_) (fun z => ?_)))
  · exact pk_lt s h (fun z2 => H0 (by omega)) (fun z2 => pk_le h l (fun _ => pk_lt l s (fun z3 => H0 (by omega)) (fun z3 => H1 (by omega))) (fun z3 => absurd z3 (by omega)))
  · exact pk_lt s l (fun z2 => H0 (by omega)) (fun z2 => pk_le h l (fun z3 => absurd z3 (by omega)) (fun _ => pk_lt h s (fun z3 => H0 (by omega)) (fun z3 => H1 (by omega))))
theorem ra_act {post : Int32 → Prop} {w : Int32} {iv : Nat × Nat} {a : Nat} (hw : ra_wi w iv a) (H : post (nI a)) : wpL_act post () w := by
  obtain ⟨l, h, hl, hh, ha, el, eh, ea, e1, e2⟩ := hw
  unfold wpL_act
  rw [ea]
  exact H
theorem ra_draft1 {post : Int32 → St2 → Prop} {tp : Nat} {x : Int32} (hp : tp < 16) (hx : x = nI tp) (H : post 1 (nI (15 * 1024 + tp * 4 + 1), rc, wc, pc, ac, sc, a1, a2, a3, a4, a5, a6)) :
    wpX_draftRange post (15421, rc, wc, pc, ac, sc, a1, a2, a3, a4, a5, a6) 1 0 x := by
  subst hx
  exact br_f (by decide) (br_t (by decide) (br_f (by decide) (br_f (by decide) (br_f (nI_pos (by omega)) (pk_lt 15 tp (fun z => absurd z (by omega)) (fun _ => pk_le 0 tp (fun _ => br_f (by decide) (nm_r (ra_dr0 tp hp) H)) (fun z => absurd z (by omega))))))))
theorem ra_draft0 {post : Int32 → St2 → Prop} {tp bt f t lo hi : Nat} (hp : tp < 16) (hb : bt < 2) (hf : f < 8) (ht : t < 16) (hlo : lo ≤ hi) (hhi : hi < 8)
    (H : post 1 (ra_bx tp bt lo hi, rc, wc, pc, ac, sc, a1, a2, a3, a4, a5, a6)) :
    wpX_draftRange post (ra_bx tp bt f t, rc, wc, pc, ac, sc, a1, a2, a3, a4, a5, a6) 0 (nI lo) (nI hi) :=
  br_f (by decide) (br_t (by decide) (br_f (nI_pos (by omega)) (pk_lt 15 lo (fun z => absurd z (by omega)) (fun _ => br_f (nI_pos (by omega)) (pk_lt 15 hi (fun z => absurd z (by omega)) (fun _ => pk_le lo hi (fun _ => br_t rfl (nm_r (ra_dr2 hp hb hf ht (by omega) hhi) H)) (fun z => absurd z (by omega))))))))
theorem ra_draftS {post : Int32 → St2 → Prop} {tp bt : Nat} {x : Int32} (hp : tp < 16) (hb : bt < 2) (hx : x = nI bt) (H : post 1 (ra_bx tp bt 0 15, rc, wc, pc, ac, sc, a1, a2, a3, a4, a5, a6)) :
    wpX_draftSet post (nI (15 * 1024 + tp * 4 + 1), rc, wc, pc, ac, sc, a1, a2, a3, a4, a5, a6) x := by
  subst hx
  refine br_f (nI_pos (by omega)) (pk_le bt 2 (fun _ => pk_eq bt 0 (fun z => ?_) (fun z => pk_eq bt 1 (fun z2 => ?_) (fun z2 => absurd hb (by omega)))) (fun z => absurd z (by omega)))
  · subst z
    exact nm_r (ra_dr1 tp hp 0 (by omega)) H
  · subst z2
    exact nm_r (ra_dr1 tp hp 1 (by omega)) H
theorem ra_insert {post : Int32 → St2 → Prop} {n a : Nat} (hn : n < 10) (ha : a < 2) (H : post (nI (n + 1)) (dr, nI (n + 1), wc, pc, ac, sc, upd a1 n dr, upd a2 n (nI a), a3, a4, a5, a6)) :
    wpX_insert post (dr, nI n, wc, pc, ac, sc, a1, a2, a3, a4, a5, a6) (nI n) (nI a) := by
  refine pk_lt n 10 (fun _ => br_f (nI_pos (by omega)) (pk_lt n n (fun z => absurd z (by omega)) (fun _ => br_f (nI_pos (by omega)) (pk_le a 1 (fun _ => ⟨0 + 1, ?_⟩) (fun z => absurd z (by omega)))))) (fun z => absurd z (by omega))
  exact pk_le n n (fun _ => ⟨pk_in n 10 hn, nm_r (by rw [nI_clamp (by omega)]) ⟨pk_in n 10 hn, nm_r (by rw [nI_clamp (by omega), ra_nar a ha]) (nm_r (nI_1 n) H)⟩⟩) (fun z => absurd z (by omega))
theorem ra_p39 {post : Int32 → St2 → Prop} {tp bt f t n : Nat} {w : Int32} {iv : Nat × Nat} {a : Nat} (hp : tp < 16) (hb : bt < 2) (hf : f < 8) (ht : t < 16) (hn : n < 10) (hw : ra_wi w iv a)
    (H : post 1 (ra_bx tp bt iv.1 iv.2, nI (n + 1), wc, pc, ac, sc, upd a1 n (ra_bx tp bt iv.1 iv.2), upd a2 n (nI a), a3, a4, a5, a6)) :
    wL_put_39 post w (nI n) (nI iv.2) (nI iv.1) 0 (ra_bx tp bt f t) (nI n) wc pc ac sc a1 a2 a3 a4 a5 a6 := by
  obtain ⟨h1, h2, h3⟩ := ra_wi_iv hw
  unfold wL_put_39
  refine ra_draft0 hp hb hf ht h1 h2 (br_f (by decide) ?_)
  refine ra_act hw ?_
  exact ra_insert hn h3 (br_t (nI_1 n).symm H)
theorem ra_put {post : Int32 → St2 → Prop} {tp bt f t n : Nat} {w x : Int32} {iv : Nat × Nat} {a : Nat} (hp : tp < 16) (hb : bt < 2) (hf : f < 8) (ht : t < 16) (hn : n < 10) (hx : x = nI n) (hw : ra_wi w iv a)
    (H : post 1 (ra_bx tp bt iv.1 iv.2, nI (n + 1), wc, pc, ac, sc, upd a1 n (ra_bx tp bt iv.1 iv.2), upd a2 n (nI a), a3, a4, a5, a6)) :
    wpL_put post (ra_bx tp bt f t, nI n, wc, pc, ac, sc, a1, a2, a3, a4, a5, a6) w x := by
  subst hx
  have h39 := ra_p39 hp hb hf ht hn hw H
  obtain ⟨l, h, hl, hh, ha, el, eh, ea, e1, e2⟩ := hw
  refine nm_r el (nm_r eh (pk_le h l (fun z => ?_) (fun z => ?_)))
  · rw [show iv.1 = h by omega, show iv.2 = l by omega] at h39
    exact pk_le h l (fun _ => h39) (fun z3 => absurd z3 (by omega))
  · rw [show iv.1 = l by omega, show iv.2 = h by omega] at h39
    exact pk_le h l (fun z3 => absurd z3 (by omega)) (fun _ => h39)
theorem ra_first {post : Int32 → Prop} {w0 w1 w2 x : Int32} {iv : Nat → Nat × Nat} {act : Nat → Nat} {s : Nat} (hw0 : ra_wi w0 (iv 0) (act 0)) (hw1 : ra_wi w1 (iv 1) (act 1)) (hw2 : ra_wi w2 (iv 2) (act 2)) (hs : s < 8) (hx : x = nI s)
    (H : post (ra_kI (ra_k iv s))) : wpL_first post () w0 w1 w2 x := by
  unfold wpL_first
  refine ra_inL hw0 hs hx (fun z => br_f (by decide) ?_) (fun z0 => br_t rfl (ra_inL hw1 hs hx (fun z => br_f (by decide) ?_) (fun z1 => br_t rfl (ra_inL hw2 hs hx (fun z => br_f (by decide) ?_) (fun z2 => br_t rfl ?_)))))
  · have e : ra_k iv s = 0 := if_pos z
    rw [e] at H
    exact H
  · have e : ra_k iv s = 1 := by unfold ra_k; rw [if_neg z0, if_pos z]
    rw [e] at H
    exact H
  · have e : ra_k iv s = 2 := by unfold ra_k; rw [if_neg z0, if_neg z1, if_pos z]
    rw [e] at H
    exact H
  · have e : ra_k iv s = 3 := by unfold ra_k; rw [if_neg z0, if_neg z1, if_neg z2]
    rw [e] at H
    exact H
theorem ra_decider {post : Int32 → Prop} {tp bt s d q k : Nat} {iv : Nat → Nat × Nat} {x y z : Int32} (hp : tp < 16) (hb : bt < 2) (hr : ra_ru tp bt a1 3 iv) (hs : s < 8) (hd : d < 16) (hq : q < 2) (hx : x = nI s) (hy : y = nI d) (hz : z = nI q) (hk : k ≤ 3)
    (h1 : ∀ j, j < k → ¬ ((iv j).1 ≤ s ∧ s ≤ (iv j).2 ∧ d ≤ tp ∧ q = bt)) (h2 : k < 3 → (iv k).1 ≤ s ∧ s ≤ (iv k).2 ∧ d ≤ tp ∧ q = bt) (H : post (ra_kI k)) :
    wpX_decider post (dr, nI 3, wc, pc, ac, sc, a1, a2, a3, a4, a5, a6) x y z := by
  subst hx hy hz
  have hpt : ra_is (ra_B s s d d q q) s s d d q q := ra_B_is (by omega) (by omega) hd hd hq hq
  refine br_f (nI_pos (by omega)) (pk_lt 15 s (fun z => absurd z (by omega)) (fun _ => br_f (nI_pos (by omega)) (pk_lt 15 d (fun z => absurd z (by omega)) (fun _ => br_f (nI_pos (by omega)) (pk_le q 1 (fun _ => nm_r (ra_pt s hs d hd q hq) ?_) (fun z => absurd z (by omega)))))))
  refine pk_loop (σ := Unit) (fun n i _ => wX_decider_60 post (ra_B s s d d q q) dr (nI 3) wc pc ac sc a1 a2 a3 a4 a5 a6 n (nI i)) (fun _ _ => True) k 0 () (by omega) trivial ?_ ?_
  · intro n _ _
    by_cases e : k < 3
    · obtain ⟨hf, ht, eb⟩ := hr k e
      have hh := h2 e
      refine pk_le 3 k (fun z => absurd z (by omega)) (fun _ => ⟨pk_in k 10 (by omega), ?_⟩)
      rw [nI_clamp (show k < 2 ^ 31 by omega), eb]
      refine ra_meets (ra_bx_is hp hb (by omega) (by omega)) hpt (fun z => absurd hh (by omega)) (fun z => br_f (by decide) ?_)
      rw [← (ra_kI_eq k (by omega) k e).mpr rfl]
      exact H
    · have e3 : k = 3 := by omega
      subst e3
      exact pk_le 3 3 (fun _ => H) (fun z => absurd z (by omega))
  · intro n i _ hi _ hw
    obtain ⟨hf, ht, eb⟩ := hr i (by omega)
    have hh := h1 i hi
    refine pk_le 3 i (fun z => absurd z (by omega)) (fun _ => ⟨pk_in i 10 (by omega), ?_⟩)
    rw [nI_clamp (show i < 2 ^ 31 by omega), eb]
    exact ra_meets (ra_bx_is hp hb (by omega) (by omega)) hpt (fun z => br_t rfl (nm_r (nI_1 i) (hw () trivial))) (fun z => absurd z (by omega))
theorem ra_decision {post : Int32 → Prop} {w0 w1 w2 x : Int32} {iv : Nat → Nat × Nat} {act : Nat → Nat} {k : Nat} (hw0 : ra_wi w0 (iv 0) (act 0)) (hw1 : ra_wi w1 (iv 1) (act 1)) (hw2 : ra_wi w2 (iv 2) (act 2)) (hk : k < 4) (hx : x = ra_kI k)
    (H : post (nI (ra_dc act k))) : wpL_decision post () x w0 w1 w2 := by
  subst hx
  refine ra_kif k 0 hk (by omega) (fun e => ra_act hw0 ?_) (fun n0 => ra_kif k 1 hk (by omega) (fun e => ra_act hw1 ?_) (fun n1 => ra_kif k 2 hk (by omega) (fun e => ra_act hw2 ?_) (fun n2 => ?_)))
  · subst e; exact H
  · subst e; exact H
  · subst e; exact H
  · have e : k = 3 := by omega
    subst e
    exact H
theorem ra_212 {post : Int32 → St0 → Prop} {mc ms kc ks : Nat} {J : Int32 → Int32 → Int32 → Int32 → Int32 → Int32 → Int32 → Prop} {w0 w1 w2 x6 x8 x9 x10 x13 x15 z0 : Int32} {iv : Nat → Nat × Nat} {act : Nat → Nat} {bt nc s k k' : Nat} {o : Option Nat}
    (hw0 : ra_wi w0 (iv 0) (act 0)) (hw1 : ra_wi w1 (iv 1) (act 1)) (hw2 : ra_wi w2 (iv 2) (act 2)) (hs : s < 8) (hb : bt < 2) (hk : k < 4) (hk' : k' < 4) (hx : x15 = ra_kI k) (hz : z0 = ra_kI k') (ho : ∀ j, o = some j → j < 8) (ha : ∀ c, ra_dc act c < 2)
    (H : J x8 x9 x10 (nI (nc + (if ra_dc act k = ra_dc act k' then 0 else 1))) (ra_lo bt (ra_stp o (if ra_dc act k = ra_dc act k' then 0 else 1) s)) x13 (nI (s + 1))) :
    wL_lawOf_212 post mc ms J w0 w1 w2 x6 (nI bt) x8 x9 x10 (nI nc) (ra_lo bt o) x13 (nI s) x15 z0 kc ks dr rc wc pc ac sc a1 a2 a3 a4 a5 a6 := by
  unfold wL_lawOf_212
  have h1 := ha k
  have h2 := ha k'
  refine ra_decision hw0 hw1 hw2 hk hx (ra_decision hw0 hw1 hw2 hk' hz ?_)
  refine pk_eq (ra_dc act k) (ra_dc act k') (fun z => nm_r (nI_1 s) ?_) (fun z => nm_r (nI_1 nc) ?_)
  · rw [if_pos z] at H
    cases o with
    | none => exact H
    | some j => exact H
  · rw [if_neg z] at H
    cases o with
    | none =>
      refine br_t rfl (nm_r ?_ (nm_r (nI_1 s) H))
      show 32 * nI s + nI bt = nI (32 * s + bt)
      rw [show (32 : Int32) = nI 32 from rfl, pk_mul, nI_add]
    | some j =>
      have := ho j rfl
      exact br_f (ra_ne3 (by omega)) (nm_r (nI_1 s) H)
theorem ra_173 {post : Int32 → St0 → Prop} {mc ms kc ks : Nat} {J : Int32 → Int32 → Int32 → Int32 → Int32 → Int32 → Int32 → Prop} {w0 w1 w2 x6 x8 x9 x10 : Int32} {iv : Nat → Nat × Nat} {act : Nat → Nat} {bt nc na s : Nat} {o : Option Nat}
    (hw0 : ra_wi w0 (iv 0) (act 0)) (hw1 : ra_wi w1 (iv 1) (act 1)) (hw2 : ra_wi w2 (iv 2) (act 2)) (hs : s < 8) (hb : bt < 2) (ho : ∀ j, o = some j → j < 8) (ha : ∀ c, ra_dc act c < 2)
    (H : J x8 x9 x10 (nI (nc + ra_ch iv act s)) (ra_lo bt (ra_stp o (ra_ch iv act s) s)) (nI (na + ra_dc act (ra_k iv s))) (nI (s + 1))) :
    wL_lawOf_173 post mc ms J w0 w1 w2 x6 (nI bt) x8 x9 x10 (nI nc) (ra_lo bt o) (nI na) (nI s) (ra_kI (ra_k iv s)) kc ks dr rc wc pc ac sc a1 a2 a3 a4 a5 a6 := by
  have hk := ra_k_lt iv s
  unfold wL_lawOf_173
  refine ra_decision hw0 hw1 hw2 hk rfl (nm_r (nI_add _ _) ?_)
  refine ra_kif (ra_k iv s) 1 hk (by omega) (fun e => ?_) (fun e => ?_)
  · refine ra_inL hw2 hs rfl (fun z => br_f (by decide) ?_) (fun z => br_t rfl ?_)
    · refine ra_212 (k := ra_k iv s) (k' := 2) hw0 hw1 hw2 hs hb hk (by omega) rfl rfl ho ha ?_
      have en : ra_nx iv s = 2 := by unfold ra_nx; rw [if_pos e, if_pos z]
      unfold ra_ch at H
      rw [en] at H
      exact H
    · refine ra_212 (k := ra_k iv s) (k' := 3) hw0 hw1 hw2 hs hb hk (by omega) rfl rfl ho ha ?_
      have en : ra_nx iv s = 3 := by unfold ra_nx; rw [if_pos e, if_neg z]
      unfold ra_ch at H
      rw [en] at H
      exact H
  · refine ra_212 (k := ra_k iv s) (k' := ra_k iv s) hw0 hw1 hw2 hs hb hk hk rfl rfl ho ha ?_
    have en : ra_nx iv s = ra_k iv s := by unfold ra_nx; rw [if_neg e]
    unfold ra_ch at H
    rw [en] at H
    exact H
theorem ra_155 {post : Int32 → St0 → Prop} {mc ms kc ks : Nat} {J : Int32 → Int32 → Int32 → Int32 → Int32 → Int32 → Int32 → Prop} {w0 w1 w2 x6 x8 : Int32} {iv : Nat → Nat × Nat} {act : Nat → Nat} {bt n1 n2 nc na s : Nat} {o : Option Nat}
    (hw0 : ra_wi w0 (iv 0) (act 0)) (hw1 : ra_wi w1 (iv 1) (act 1)) (hw2 : ra_wi w2 (iv 2) (act 2)) (hs : s < 8) (hb : bt < 2) (ho : ∀ j, o = some j → j < 8) (ha : ∀ c, ra_dc act c < 2)
    (H : J x8 (nI (n1 + ra_e iv 1 s)) (nI (n2 + ra_e iv 2 s)) (nI (nc + ra_ch iv act s)) (ra_lo bt (ra_stp o (ra_ch iv act s) s)) (nI (na + ra_dc act (ra_k iv s))) (nI (s + 1))) :
    wL_lawOf_155 post mc ms J w0 w1 w2 x6 (nI bt) x8 (nI n1) (nI n2) (nI nc) (ra_lo bt o) (nI na) (nI s) (ra_kI (ra_k iv s)) kc ks dr rc wc pc ac sc a1 a2 a3 a4 a5 a6 := by
  have hk := ra_k_lt iv s
  unfold ra_e at H
  refine ra_kif (ra_k iv s) 1 hk (by omega) (fun e => nm_r (nI_1 n1) ?_) (fun e => ?_)
  · rw [if_pos e, if_neg (show ¬ ra_k iv s = 2 by omega)] at H
    exact ra_kif (ra_k iv s) 2 hk (by omega) (fun e2 => absurd e2 (by omega)) (fun _ => ra_173 hw0 hw1 hw2 hs hb ho ha H)
  · rw [if_neg e] at H
    refine ra_kif (ra_k iv s) 2 hk (by omega) (fun e2 => nm_r (nI_1 n2) ?_) (fun e2 => ?_)
    · rw [if_pos e2] at H
      exact ra_173 hw0 hw1 hw2 hs hb ho ha H
    · rw [if_neg e2] at H
      exact ra_173 hw0 hw1 hw2 hs hb ho ha H
end
end
section
/-! ===== the plain law ===== -/
theorem ra_k_0 {iv : Nat → Nat × Nat} {s : Nat} (h0 : (iv 0).1 ≤ s ∧ s ≤ (iv 0).2) : ra_k iv s = 0 := if_pos h0
theorem ra_k_1 {iv : Nat → Nat × Nat} {s : Nat} (h0 : ¬ ((iv 0).1 ≤ s ∧ s ≤ (iv 0).2)) (h1 : (iv 1).1 ≤ s ∧ s ≤ (iv 1).2) : ra_k iv s = 1 := by
  unfold ra_k
  rw [if_neg h0, if_pos h1]
theorem ra_k_2 {iv : Nat → Nat × Nat} {s : Nat} (h0 : ¬ ((iv 0).1 ≤ s ∧ s ≤ (iv 0).2)) (h1 : ¬ ((iv 1).1 ≤ s ∧ s ≤ (iv 1).2)) (h2 : (iv 2).1 ≤ s ∧ s ≤ (iv 2).2) : ra_k iv s = 2 := by
  unfold ra_k
  rw [if_neg h0, if_neg h1, if_pos h2]
theorem ra_k_3 {iv : Nat → Nat × Nat} {s : Nat} (h0 : ¬ ((iv 0).1 ≤ s ∧ s ≤ (iv 0).2)) (h1 : ¬ ((iv 1).1 ≤ s ∧ s ≤ (iv 1).2)) (h2 : ¬ ((iv 2).1 ≤ s ∧ s ≤ (iv 2).2)) : ra_k iv s = 3 := by
  unfold ra_k
  rw [if_neg h0, if_neg h1, if_neg h2]
theorem ra_k_spec (iv : Nat → Nat × Nat) (s : Nat) : (∀ j, j < ra_k iv s → ¬ ((iv j).1 ≤ s ∧ s ≤ (iv j).2)) ∧ (ra_k iv s < 3 → (iv (ra_k iv s)).1 ≤ s ∧ s ≤ (iv (ra_k iv s)).2) := by
  by_cases h0 : (iv 0).1 ≤ s ∧ s ≤ (iv 0).2
  · rw [ra_k_0 h0]
    exact ⟨fun j hj => absurd hj (by omega), fun _ => h0⟩
  · by_cases h1 : (iv 1).1 ≤ s ∧ s ≤ (iv 1).2
    · rw [ra_k_1 h0 h1]
      refine ⟨fun j hj => ?_, fun _ => h1⟩
      have e : j = 0 := by omega
      subst e
      exact h0
    · by_cases h2 : (iv 2).1 ≤ s ∧ s ≤ (iv 2).2
      · rw [ra_k_2 h0 h1 h2]
        refine ⟨fun j hj => ?_, fun _ => h2⟩
        have e : j = 0 ∨ j = 1 := by omega
        rcases e with e | e
        · subst e; exact h0
        · subst e; exact h1
      · rw [ra_k_3 h0 h1 h2]
        refine ⟨fun j hj => ?_, fun z => absurd z (by omega)⟩
        have e : j = 0 ∨ j = 1 ∨ j = 2 := by omega
        rcases e with e | e | e
        · subst e; exact h0
        · subst e; exact h1
        · subst e; exact h2
theorem ra_own_e (iv : Nat → Nat × Nat) (s : Nat) : ra_own iv 0 s = ra_e iv 0 s ∧ ra_own iv 1 s = ra_e iv 1 s ∧ ra_own iv 2 s = ra_e iv 2 s := by
  have d0 : ra_own iv 0 s = ra_i1 (iv 0).1 (iv 0).2 s := rfl
  have d1 : ra_own iv 1 s = if (iv 0).1 ≤ s ∧ s ≤ (iv 0).2 then 0 else ra_i1 (iv 1).1 (iv 1).2 s := rfl
  have d2 : ra_own iv 2 s = if (iv 1).1 ≤ s ∧ s ≤ (iv 1).2 then 0 else if (iv 0).1 ≤ s ∧ s ≤ (iv 0).2 then 0 else ra_i1 (iv 2).1 (iv 2).2 s := rfl
  rw [d0, d1, d2]
  unfold ra_e
  by_cases h0 : (iv 0).1 ≤ s ∧ s ≤ (iv 0).2
  · rw [ra_k_0 h0, ra_i1_t h0, if_pos h0, if_pos h0]
    refine ⟨rfl, rfl, ?_⟩
    split <;> rfl
  · rw [ra_i1_f h0, if_neg h0, if_neg h0]
    by_cases h1 : (iv 1).1 ≤ s ∧ s ≤ (iv 1).2
    · rw [ra_k_1 h0 h1, ra_i1_t h1, if_pos h1]
      exact ⟨rfl, rfl, rfl⟩
    · rw [ra_i1_f h1, if_neg h1]
      by_cases h2 : (iv 2).1 ≤ s ∧ s ≤ (iv 2).2
      · rw [ra_k_2 h0 h1 h2, ra_i1_t h2]
        exact ⟨rfl, rfl, rfl⟩
      · rw [ra_k_3 h0 h1 h2, ra_i1_f h2]
        exact ⟨rfl, rfl, rfl⟩
theorem ra_alm3 {iv : Nat → Nat × Nat} {act : Nat → Nat} (ha : ∀ j, j < 3 → act j < 2) (s : Nat) : ra_alm iv act 3 s = ra_dc act (ra_k iv s) := by
  obtain ⟨o0, o1, o2⟩ := ra_own_e iv s
  have b0 := ha 0 (by omega)
  have b1 := ha 1 (by omega)
  have b2 := ha 2 (by omega)
  have d0 : ra_dc act 0 = act 0 := rfl
  have d1 : ra_dc act 1 = act 1 := rfl
  have d2 : ra_dc act 2 = act 2 := rfl
  have d3 : ra_dc act 3 = 0 := rfl
  show 0 + (if act 0 = 0 then 0 else ra_own iv 0 s) + (if act 1 = 0 then 0 else ra_own iv 1 s) + (if act 2 = 0 then 0 else ra_own iv 2 s) = ra_dc act (ra_k iv s)
  rw [o0, o1, o2]
  unfold ra_e
  have hk := ra_k_lt iv s
  have e : ra_k iv s = 0 ∨ ra_k iv s = 1 ∨ ra_k iv s = 2 ∨ ra_k iv s = 3 := by omega
  rcases e with e | e | e | e
  · rw [e, d0]
    repeat' split
    all_goals omega
  · rw [e, d1]
    repeat' split
    all_goals omega
  · rw [e, d2]
    repeat' split
    all_goals omega
  · rw [e, d3]
    repeat' split
    all_goals omega
/-- the two rules that are left -/
def ra_iv2 (iv : Nat → Nat × Nat) (j : Nat) : Nat × Nat := if j = 0 then iv 0 else iv 2
def ra_ac2 (act : Nat → Nat) (j : Nat) : Nat := if j = 0 then act 0 else act 2
theorem ra_alm2 {iv : Nat → Nat × Nat} {act : Nat → Nat} (ha : ∀ j, j < 3 → act j < 2) (s : Nat) : ra_alm (ra_iv2 iv) (ra_ac2 act) 2 s = ra_dc act (ra_nx iv s) := by
  have b0 := ha 0 (by omega)
  have b2 := ha 2 (by omega)
  have d0 : ra_dc act 0 = act 0 := rfl
  have d2 : ra_dc act 2 = act 2 := rfl
  have d3 : ra_dc act 3 = 0 := rfl
  show 0 + (if act 0 = 0 then 0 else ra_i1 (iv 0).1 (iv 0).2 s) + (if act 2 = 0 then 0 else if (iv 0).1 ≤ s ∧ s ≤ (iv 0).2 then 0 else ra_i1 (iv 2).1 (iv 2).2 s) = ra_dc act (ra_nx iv s)
  unfold ra_nx
  by_cases h0 : (iv 0).1 ≤ s ∧ s ≤ (iv 0).2
  · rw [ra_k_0 h0, ra_i1_t h0, if_pos h0, if_neg (show ¬ 0 = 1 by omega), d0]
    repeat' split
    all_goals omega
  · rw [ra_i1_f h0, if_neg h0]
    by_cases h1 : (iv 1).1 ≤ s ∧ s ≤ (iv 1).2
    · rw [ra_k_1 h0 h1, if_pos rfl]
      by_cases h2 : (iv 2).1 ≤ s ∧ s ≤ (iv 2).2
      · rw [ra_i1_t h2, if_pos h2, d2]
        repeat' split
        all_goals omega
      · rw [ra_i1_f h2, if_neg h2, d3]
        repeat' split
        all_goals omega
    · by_cases h2 : (iv 2).1 ≤ s ∧ s ≤ (iv 2).2
      · rw [ra_k_2 h0 h1 h2, ra_i1_t h2, if_neg (show ¬ 2 = 1 by omega), d2]
        repeat' split
        all_goals omega
      · rw [ra_k_3 h0 h1 h2, ra_i1_f h2, if_neg (show ¬ 3 = 1 by omega), d3]
        repeat' split
        all_goals omega
theorem ra_dc_lt {act : Nat → Nat} (ha : ∀ j, j < 3 → act j < 2) (c : Nat) : ra_dc act c < 2 := by
  have b0 := ha 0 (by omega)
  have b1 := ha 1 (by omega)
  have b2 := ha 2 (by omega)
  unfold ra_dc
  split <;> omega
theorem ra_new_old {iv : Nat → Nat × Nat} {act : Nat → Nat} (ha : ∀ j, j < 3 → act j < 2) (s : Nat) :
    (if ra_alm iv act 3 s = 0 then ra_alm (ra_iv2 iv) (ra_ac2 act) 2 s else 0) + (if ra_alm (ra_iv2 iv) (ra_ac2 act) 2 s = 0 then ra_alm iv act 3 s else 0) = ra_ch iv act s := by
  have h1 := ra_dc_lt ha (ra_k iv s)
  have h2 := ra_dc_lt ha (ra_nx iv s)
  unfold ra_ch
  rw [ra_alm3 ha, ra_alm2 ha]
  repeat' split
  all_goals omega
theorem ra_rp_ch {iv : Nat → Nat × Nat} {act : Nat → Nat} : ra_rp iv act (ra_own iv 1) ↔ ra_sum (ra_ch iv act) 8 = 0 := by
  have d1 : ra_dc act 1 = act 1 := rfl
  have d2 : ra_dc act 2 = act 2 := rfl
  have d3 : ra_dc act 3 = 0 := rfl
  have k1 : ∀ s, ra_own iv 1 s ≠ 0 → ra_k iv s = 1 := by
    intro s h
    rw [(ra_own_e iv s).2.1] at h
    unfold ra_e at h
    by_cases e : ra_k iv s = 1
    · exact e
    · rw [if_neg e] at h
      exact absurd rfl h
  have k2 : ∀ s, ra_k iv s = 1 → ra_own iv 1 s = 1 := by
    intro s e
    rw [(ra_own_e iv s).2.1]
    exact if_pos e
  have c2 : ∀ s, ra_k iv s = 1 → (iv 2).1 ≤ s ∧ s ≤ (iv 2).2 → (ra_ch iv act s = 0 ↔ act 1 = act 2) := by
    intro s e h
    unfold ra_ch ra_nx
    rw [if_pos e, if_pos h, e, d1, d2]
    split <;> omega
  have c3 : ∀ s, ra_k iv s = 1 → ¬ ((iv 2).1 ≤ s ∧ s ≤ (iv 2).2) → (ra_ch iv act s = 0 ↔ act 1 = 0) := by
    intro s e h
    unfold ra_ch ra_nx
    rw [if_pos e, if_neg h, e, d1, d3]
    split <;> omega
  have cn : ∀ s, ra_k iv s ≠ 1 → ra_ch iv act s = 0 := by
    intro s e
    unfold ra_ch ra_nx
    rw [if_neg e, if_pos rfl]
  constructor
  · intro h
    refine ra_sum_0 (fun s hs => ?_)
    by_cases e : ra_k iv s = 1
    · have h1 := k2 s e
      by_cases hc : (iv 2).1 ≤ s ∧ s ≤ (iv 2).2
      · rw [c2 s e hc]
        rcases h.1 with g | g
        · exact g.symm
        · have := g s hs hc
          omega
      · rw [c3 s e hc]
        rcases h.2 with g | g
        · exact g
        · have := g s hs hc
          omega
    · exact cn s e
  · intro h
    have hz : ∀ s, s < 8 → ra_ch iv act s = 0 := ra_sum_z h
    constructor
    · by_cases e : act 2 = act 1
      · exact Or.inl e
      · refine Or.inr (fun s hs hc => ?_)
        by_cases z : ra_own iv 1 s = 0
        · exact z
        · have := (c2 s (k1 s z) hc).mp (hz s hs)
          omega
    · by_cases e : act 1 = 0
      · exact Or.inl e
      · refine Or.inr (fun s hs hc => ?_)
        by_cases z : ra_own iv 1 s = 0
        · exact z
        · exact absurd ((c3 s (k1 s z) hc).mp (hz s hs)) e
end
section
/-! ===== the law's end and its loop ===== -/
section
variable {dr rc wc pc ac sc : Int32} {a1 a2 a3 a4 a5 a6 : Nat → Int32}
theorem ra_mulI (a tp : Nat) : nI a * (nI tp + 1) = nI (a * (tp + 1)) := by rw [nI_1, pk_mul]
theorem ra_tail {post : Int32 → St0 → Prop} {mc ms kc ks : Nat} {x6 x12 r : Int32} {n1 nc : Nat} {X Y : Prop} (h1 : n1 < 100) (h2 : nc < 100) (hr : ra_fc r X Y) (hX : X ↔ n1 = 0) (hY : Y ↔ nc = 0)
    (HF : ∀ z, wL_lawOf_392 post mc ms x6 (nI nc) x12 z z kc ks dr rc wc pc ac sc a1 a2 a3 a4 a5 a6) :
    (r = 1 → wL_lawOf_346 post mc ms x6 (nI n1) (nI nc) x12 r kc ks dr rc wc pc ac sc a1 a2 a3 a4 a5 a6) ∧ (¬ r = 1 → ((r = 2 → wL_lawOf_346 post mc ms x6 (nI n1) (nI nc) x12 r kc ks dr rc wc pc ac sc a1 a2 a3 a4 a5 a6) ∧ (¬ r = 2 → wL_lawOf_351 post mc ms x6 (nI n1) (nI nc) x12 r 0 kc ks dr rc wc pc ac sc a1 a2 a3 a4 a5 a6))) := by
  obtain ⟨g1, g2⟩ := hr
  by_cases z : n1 = 0
  · have hx : X := hX.mpr z
    have h3 : ¬ r = 3 := fun e => (g2.mp e).1 hx
    have key : wL_lawOf_346 post mc ms x6 (nI n1) (nI nc) x12 r kc ks dr rc wc pc ac sc a1 a2 a3 a4 a5 a6 := by
      unfold wL_lawOf_346
      refine pk_eq n1 0 (fun _ => ?_) (fun y => absurd z y)
      refine br_t rfl (br_f h3 ?_)
      exact pk_le n1 0 (fun _ => HF 0) (fun y => absurd y (by omega))
    exact ⟨fun _ => key, fun _ => ⟨fun _ => key, fun e2 => by
      rcases g1.mpr hx with e | e
      · exact absurd e (by assumption)
      · exact absurd e e2⟩⟩
  · have hx : ¬ X := fun h => z (hX.mp h)
    have e1 : ¬ r = 1 := fun e => hx (g1.mp (Or.inl e))
    have e2 : ¬ r = 2 := fun e => hx (g1.mp (Or.inr e))
    refine br_f e1 (br_f e2 ?_)
    refine pk_eq n1 0 (fun y => absurd y z) (fun _ => ?_)
    by_cases e3 : r = 3
    · have hc : nc = 0 := hY.mp (g2.mp e3).2
      refine br_t rfl (br_t e3 ?_)
      exact pk_le n1 0 (fun y => absurd y (by omega)) (fun _ => pk_eq nc 0 (fun _ => HF 1) (fun y => absurd hc y))
    · have hc : ¬ nc = 0 := fun h => e3 (g2.mpr ⟨hx, hY.mpr h⟩)
      refine br_t rfl (br_f e3 ?_)
      exact pk_le n1 0 (fun y => absurd y (by omega)) (fun _ => pk_eq nc 0 (fun y => absurd y hc) (fun _ => HF 0))
theorem ra_392 {post : Int32 → St0 → Prop} {mc ms kc ks : Nat} {z : Int32} {tp bt ns : Nat} {iv : Nat → Nat × Nat} {act : Nat → Nat} (hp : tp < 16) (hb : bt < 2) (hr : ra_ru tp bt a1 3 iv) (ha : ∀ j, j < 3 → act j < 2 ∧ a2 j = nI (act j)) (h6 : ra_R tp bt a6 ns (ra_alm iv act 3)) (H : post 1 ()) :
    wL_lawOf_392 post mc ms (nI tp) (nI (ra_sum (ra_ch iv act) 8)) (ra_lo bt (ra_ls (ra_ch iv act) 8)) z z kc ks dr (nI 3) wc pc ac (nI ns) a1 a2 a3 a4 a5 a6 := by
  have ha' : ∀ j, j < 3 → act j < 2 := fun j hj => (ha j hj).1
  have hm0 := ra_alm_sum iv act 3
  refine br_t rfl ?_
  refine ra_remove (fun b1 b2 e1 e2 e3 e4 => ?_)
  have hr2 : ra_ru tp bt b1 2 (ra_iv2 iv) := by
    intro j hj
    have ej : j = 0 ∨ j = 1 := by omega
    rcases ej with e | e
    · subst e
      rw [e1]
      exact hr 0 (by omega)
    · subst e
      rw [e2]
      exact hr 2 (by omega)
  have ha2 : ∀ j, j < 2 → ra_ac2 act j < 2 ∧ b2 j = nI (ra_ac2 act j) := by
    intro j hj
    have ej : j = 0 ∨ j = 1 := by omega
    rcases ej with e | e
    · subst e
      rw [e3]
      exact ha 0 (by omega)
    · subst e
      obtain ⟨c1, c2⟩ := ha 2 (by omega)
      rw [e4, c2, ra_narV c1]
      exact ⟨c1, rfl⟩
  refine br_t rfl ?_
  refine ra_changed hp hb (by omega) hr2 ha2 h6 hm0 (fun n wc' pc' a3' a4' a5' => ?_)
  refine br_t ?_ ?_
  · rw [ra_mulI, ← ra_sum_add, ra_sum_congr (fun s _ => ra_new_old ha' s)]
  · refine ra_firstChanged hp hb (by omega) hr2 ha2 h6 hm0 (fun o n wc' pc' a3' a4' a5' ho => ?_)
    refine br_t ?_ H
    have ho2 : ra_il 8 (ra_ch iv act) o := ra_il_m ho (fun s _ => ra_new_old ha' s)
    rw [ra_il_u ho2 (ra_il_ls _ 8)]
theorem ra_exit {post : Int32 → St0 → Prop} {mc ms kc ks n : Nat} {w0 w1 w2 : Int32} {tp bt : Nat} {iv : Nat → Nat × Nat} {act : Nat → Nat} (hp : tp < 16) (hb : bt < 2) (hr : ra_ru tp bt a1 3 iv) (ha : ∀ j, j < 3 → act j < 2 ∧ a2 j = nI (act j)) (H : post 1 ()) :
    wL_lawOf_93 post mc ms w0 w1 w2 (nI tp) (nI bt) kc ks dr (nI 3) wc pc ac sc a1 a2 a3 a4 a5 a6 (n + 1) (nI (ra_sum (ra_e iv 0) 8)) (nI (ra_sum (ra_e iv 1) 8)) (nI (ra_sum (ra_e iv 2) 8)) (nI (ra_sum (ra_ch iv act) 8)) (ra_lo bt (ra_ls (ra_ch iv act) 8)) (nI (ra_sum (fun s => ra_dc act (ra_k iv s)) 8)) (nI 8) := by
  have ha' : ∀ j, j < 3 → act j < 2 := fun j hj => (ha j hj).1
  have s0 : ra_sum (ra_own iv 0) 8 = ra_sum (ra_e iv 0) 8 := ra_sum_congr (fun s _ => (ra_own_e iv s).1)
  have s1 : ra_sum (ra_own iv 1) 8 = ra_sum (ra_e iv 1) 8 := ra_sum_congr (fun s _ => (ra_own_e iv s).2.1)
  have s2 : ra_sum (ra_own iv 2) 8 = ra_sum (ra_e iv 2) 8 := ra_sum_congr (fun s _ => (ra_own_e iv s).2.2)
  have s3 : ra_sum (ra_alm iv act 3) 8 = ra_sum (fun s => ra_dc act (ra_k iv s)) 8 := ra_sum_congr (fun s _ => ra_alm3 ha' s)
  have l1 : ra_sum (ra_e iv 1) 8 ≤ 8 := ra_sum_n (fun s _ => by unfold ra_e; split <;> omega)
  have l2 : ra_sum (ra_ch iv act) 8 ≤ 8 := ra_sum_n (fun s _ => by unfold ra_ch; split <;> omega)
  refine pk_le 8 8 (fun _ => ?_) (fun z => absurd z (by omega))
  refine ra_owned (i := 0) hp hb (by omega) (by omega) rfl hr (fun wc1 pc1 a31 a41 => br_t (by rw [ra_mulI, s0]) ?_)
  refine ra_owned (i := 1) hp hb (by omega) (by omega) rfl hr (fun wc2 pc2 a32 a42 => br_t (by rw [ra_mulI, s1]) ?_)
  refine ra_owned (i := 2) hp hb (by omega) (by omega) rfl hr (fun wc3 pc3 a33 a43 => br_t (by rw [ra_mulI, s2]) ?_)
  refine ra_save hp hb (by omega) hr ha (fun ns wc4 pc4 a34 a44 a54 a64 h6 => br_t (by rw [ra_mulI, s3]) ?_)
  refine ra_fault hp hb hr ha rfl (fun r wc5 pc5 a35 a45 hfc => ?_)
  exact ra_tail (by omega) (by omega) hfc (by rw [s1]) ra_rp_ch (fun z => ra_392 hp hb hr ha h6 H)
theorem ra_loop {post : Int32 → St0 → Prop} {mc ms kc ks : Nat} {w0 w1 w2 : Int32} {tp bt : Nat} {iv : Nat → Nat × Nat} {act : Nat → Nat} (hp : tp < 16) (hb : bt < 2) (hw0 : ra_wi w0 (iv 0) (act 0)) (hw1 : ra_wi w1 (iv 1) (act 1)) (hw2 : ra_wi w2 (iv 2) (act 2)) (hr : ra_ru tp bt a1 3 iv) (ha : ∀ j, j < 3 → act j < 2 ∧ a2 j = nI (act j)) (H : post 1 ()) :
    ∃ fu, wL_lawOf_93 post mc ms w0 w1 w2 (nI tp) (nI bt) kc ks dr (nI 3) wc pc ac sc a1 a2 a3 a4 a5 a6 fu 0 0 0 0 (-3) 0 0 := by
  have ha' : ∀ j, j < 3 → act j < 2 := fun j hj => (ha j hj).1
  refine pk_loop (σ := Unit) (fun n i _ => wL_lawOf_93 post mc ms w0 w1 w2 (nI tp) (nI bt) kc ks dr (nI 3) wc pc ac sc a1 a2 a3 a4 a5 a6 n (nI (ra_sum (ra_e iv 0) i)) (nI (ra_sum (ra_e iv 1) i)) (nI (ra_sum (ra_e iv 2) i)) (nI (ra_sum (ra_ch iv act) i)) (ra_lo bt (ra_ls (ra_ch iv act) i)) (nI (ra_sum (fun s => ra_dc act (ra_k iv s)) i)) (nI i))
    (fun _ _ => True) 8 0 () (by omega) trivial ?_ ?_
  · intro n _ _
    exact ra_exit hp hb hr ha H
  · intro n i _ hi _ hw
    have hk := ra_k_lt iv i
    obtain ⟨k1, k2⟩ := ra_k_spec iv i
    have ho : ∀ j, ra_ls (ra_ch iv act) i = some j → j < 8 := by
      intro j e
      have h := ra_il_ls (ra_ch iv act) i
      rw [e] at h
      have := h.1
      omega
    have h' : wL_lawOf_93 post mc ms w0 w1 w2 (nI tp) (nI bt) kc ks dr (nI 3) wc pc ac sc a1 a2 a3 a4 a5 a6 n (nI (ra_sum (ra_e iv 0) i + ra_e iv 0 i)) (nI (ra_sum (ra_e iv 1) i + ra_e iv 1 i)) (nI (ra_sum (ra_e iv 2) i + ra_e iv 2 i)) (nI (ra_sum (ra_ch iv act) i + ra_ch iv act i)) (ra_lo bt (ra_stp (ra_ls (ra_ch iv act) i) (ra_ch iv act i) i)) (nI (ra_sum (fun s => ra_dc act (ra_k iv s)) i + ra_dc act (ra_k iv i))) (nI (i + 1)) := hw () trivial
    refine pk_le 8 i (fun z => absurd z (by omega)) (fun _ => ?_)
    refine ra_first hw0 hw1 hw2 hi rfl ?_
    refine ra_decider hp hb hr hi hp hb rfl rfl rfl (k := ra_k iv i) (by omega) (fun j hj g => k1 j hj ⟨g.1, g.2.1⟩) (fun h => ⟨(k2 h).1, (k2 h).2, Nat.le_refl _, rfl⟩) (br_t rfl ?_)
    refine ra_decider (d := 0) (q := 1 - bt) (k := 3) hp hb hr hi (by omega) (by omega) rfl rfl (pk_sub (a := 1) (b := bt) (by omega)) (by omega) (fun j hj g => absurd g.2.2.2 (by omega)) (fun h => absurd h (by omega)) (br_t rfl ?_)
    refine ra_kif (ra_k iv i) 0 hk (by omega) (fun e => nm_r (nI_1 _) ?_) (fun e => ?_)
    · rw [show ra_e iv 0 i = 1 from if_pos e] at h'
      exact ra_155 hw0 hw1 hw2 hi hb ho (ra_dc_lt ha') h'
    · rw [show ra_e iv 0 i = 0 from if_neg e] at h'
      exact ra_155 hw0 hw1 hw2 hi hb ho (ra_dc_lt ha') h'
theorem ra_lawOf {post : Int32 → St0 → Prop} (H : post 1 ()) (p0 p1 p2 p3 p4 : Int32) : wpL_lawOf post 7 2080 () p0 p1 p2 p3 p4 := by
  obtain ⟨tp, hp, ep⟩ := pk_andE p3 (m := 15) 4 (by decide)
  obtain ⟨bt, hb, eb⟩ := pk_andE p4 (m := 1) 1 (by decide)
  have hp : tp < 16 := hp
  have hb : bt < 2 := hb
  obtain ⟨i0, c0, hw0⟩ := ra_wi_of p0
  obtain ⟨i1, c1, hw1⟩ := ra_wi_of p1
  obtain ⟨i2, c2, hw2⟩ := ra_wi_of p2
  have v0 := ra_wi_iv hw0
  have v1 := ra_wi_iv hw1
  have v2 := ra_wi_iv hw2
  refine ⟨by omega, by omega, 6, 2068, by omega, by omega, ?_⟩
  refine ⟨by omega, by omega, by omega, by omega, by omega, by omega, by omega, by omega, by omega, by omega, by omega, by omega, ?_⟩
  refine nm_r ep (nm_r eb ?_)
  refine ra_draft1 hp rfl ?_
  refine ra_draftS hp hb rfl ?_
  refine ra_put (n := 0) (f := 0) (t := 15) hp hb (by omega) (by omega) (by omega) rfl hw0 (br_f (by decide) ?_)
  refine ra_put (n := 1) hp hb (show i0.1 < 8 by omega) (show i0.2 < 16 by omega) (by omega) rfl hw1 (br_f (by decide) ?_)
  refine ra_put (n := 2) hp hb (show i1.1 < 8 by omega) (show i1.2 < 16 by omega) (by omega) rfl hw2 (br_f (by decide) ?_)
  refine ra_loop (iv := fun j => if j = 0 then i0 else if j = 1 then i1 else i2) (act := fun j => if j = 0 then c0 else if j = 1 then c1 else c2) hp hb hw0 hw1 hw2 ?_ ?_ H
  · intro j hj
    have ej : j = 0 ∨ j = 1 ∨ j = 2 := by omega
    rcases ej with e | e | e
    · subst e
      exact ⟨v0.1, v0.2.1, rfl⟩
    · subst e
      exact ⟨v1.1, v1.2.1, rfl⟩
    · subst e
      exact ⟨v2.1, v2.2.1, rfl⟩
  · intro j hj
    have ej : j = 0 ∨ j = 1 ∨ j = 2 := by omega
    rcases ej with e | e | e
    · subst e
      exact ⟨v0.2.2, rfl⟩
    · subst e
      exact ⟨v1.2.2, rfl⟩
    · subst e
      exact ⟨v2.2.2, rfl⟩
theorem ra_cell {post : Int32 → Prop} {L j : Nat} {xs : Nat → Int32} {x : Int32} (hL : L ≤ 5) (hj : j < 5) (hx : x = nI j) (H : ∀ v, post v) : wpL_cellAt post L xs () x := by
  subst hx
  exact pk_le L j (fun _ => H _) (fun z => ⟨pk_in j L z, H _⟩)
end
/-! ===== WHAT IS OWED for RuleAnomalyLaw: one statement: the law answers true on every script of L ints xs ===== -/
theorem i_vc (xs : Nat → Int32) (L : Nat) (hL : L ≤ 5) : wpL_law (fun r => r = 1) L xs := by
  unfold wpL_law
  refine ra_cell (j := 0) hL (by omega) rfl (fun v0 => ?_)
  refine ra_cell (j := 1) hL (by omega) rfl (fun v1 => ?_)
  refine ra_cell (j := 2) hL (by omega) rfl (fun v2 => ?_)
  refine ra_cell (j := 3) hL (by omega) rfl (fun v3 => ?_)
  refine ra_cell (j := 4) hL (by omega) rfl (fun v4 => ?_)
  exact ⟨7, 2080, by omega, by omega, ra_lawOf rfl v0 v1 v2 v3 v4⟩
end
