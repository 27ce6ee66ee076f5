section
/-- z is the least p at or above x; N when there is none below N -/
def lj_L (N : Nat) (p : Nat → Prop) (x z : Nat) : Prop := x ≤ z ∧ z ≤ N ∧ (z < N → p z) ∧ ∀ y, x ≤ y → y < z → ¬ p y
theorem lj_L_uniq {N : Nat} {p : Nat → Prop} {x z z' : Nat} (h : lj_L N p x z) (h' : lj_L N p x z') : z = z' := by
  obtain ⟨h1, h2, h3, h4⟩ := h
  obtain ⟨g1, g2, g3, g4⟩ := h'
  rcases Nat.lt_trichotomy z z' with c | c | c
  · exact absurd (h3 (by omega)) (g4 z h1 c)
  · exact c
  · exact absurd (g3 (by omega)) (h4 z' g1 c)
theorem lj_L_congr {N : Nat} {p q : Nat → Prop} {x z : Nat} (e : ∀ y, y < N → (p y ↔ q y)) (h : lj_L N p x z) : lj_L N q x z := by
  obtain ⟨h1, h2, h3, h4⟩ := h
  exact ⟨h1, h2, fun c => (e z c).mp (h3 c), fun y a b c => h4 y a b ((e y (by omega)).mpr c)⟩
/-- digit e of c in base 8, four digits, digit 0 the highest -/
def lj_dg (c : Nat) : Nat → Nat
  | 0 => c / 512 % 8
  | 1 => c / 64 % 8
  | 2 => c / 8 % 8
  | _ + 3 => c % 8
/-- the first d digits of c as a number -/
def lj_q (c : Nat) : Nat → Nat
  | 0 => 0
  | 1 => c / 512
  | 2 => c / 64
  | 3 => c / 8
  | _ + 4 => c
theorem lj_dg_lt (c e : Nat) : lj_dg c e < 8 := by
  match e with
  | 0 => exact Nat.mod_lt _ (by decide)
  | 1 => exact Nat.mod_lt _ (by decide)
  | 2 => exact Nat.mod_lt _ (by decide)
  | _ + 3 => exact Nat.mod_lt _ (by decide)
theorem lj_q_s {c d : Nat} (hc : c < 4096) (hd : d < 4) : lj_q c (d + 1) = lj_q c d * 8 + lj_dg c d := by
  match d, hd with
  | 0, _ =>
    show c / 512 = 0 * 8 + c / 512 % 8
    omega
  | 1, _ =>
    show c / 64 = c / 512 * 8 + c / 64 % 8
    omega
  | 2, _ =>
    show c / 8 = c / 64 * 8 + c / 8 % 8
    omega
  | 3, _ =>
    show c = c / 8 * 8 + c % 8
    omega
theorem lj_q_mono {a b : Nat} (h : a ≤ b) (d : Nat) : lj_q a d ≤ lj_q b d := by
  match d with
  | 0 => exact Nat.le_refl 0
  | 1 => exact Nat.div_le_div_right h
  | 2 => exact Nat.div_le_div_right h
  | 3 => exact Nat.div_le_div_right h
  | _ + 4 => exact h
/-- the number of the digits t 0 .. t (d-1) -/
def lj_pre (t : Nat → Nat) : Nat → Nat
  | 0 => 0
  | d + 1 => lj_pre t d * 8 + t d
theorem lj_pre_s (t : Nat → Nat) (d : Nat) : lj_pre t (d + 1) = lj_pre t d * 8 + t d := rfl
theorem lj_pre_eq {t t' : Nat → Nat} : ∀ d, (∀ e, e < d → t e = t' e) → lj_pre t d = lj_pre t' d := by
  intro d
  induction d with
  | zero => intro _; rfl
  | succ d ih =>
    intro h
    rw [lj_pre_s, lj_pre_s, ih (fun e he => h e (by omega)), h d (by omega)]
theorem lj_pre_q {c : Nat} (hc : c < 4096) : ∀ d, d ≤ 4 → lj_q c d = lj_pre (lj_dg c) d := by
  intro d
  induction d with
  | zero => intro _; rfl
  | succ d ih =>
    intro h
    rw [lj_q_s hc (by omega), lj_pre_s, ih (by omega)]
theorem lj_pre_inj {t t' : Nat → Nat} : ∀ d, (∀ e, e < d → t e < 8) → (∀ e, e < d → t' e < 8) → lj_pre t d = lj_pre t' d → ∀ e, e < d → t e = t' e := by
  intro d
  induction d with
  | zero => intro _ _ _ e he; exact absurd he (by omega)
  | succ d ih =>
    intro h h' hp e he
    rw [lj_pre_s, lj_pre_s] at hp
    have a := h d (by omega)
    have b := h' d (by omega)
    by_cases c : e = d
    · rw [c]; omega
    · exact ih (fun e he => h e (by omega)) (fun e he => h' e (by omega)) (by omega) e (by omega)
theorem lj_pre_lt {t : Nat → Nat} (h : ∀ e, e < 4 → t e < 8) : lj_pre t 4 < 4096 := by
  have h0 := h 0 (by omega)
  have h1 := h 1 (by omega)
  have h2 := h 2 (by omega)
  have h3 := h 3 (by omega)
  show (((0 * 8 + t 0) * 8 + t 1) * 8 + t 2) * 8 + t 3 < 4096
  omega
theorem lj_pre_4 (t : Nat → Nat) : lj_pre t 4 = t 3 + 8 * t 2 + 64 * t 1 + 512 * t 0 := by
  show (((0 * 8 + t 0) * 8 + t 1) * 8 + t 2) * 8 + t 3 = _
  omega
/-- the first d digits of c are t's, said by numbers -/
theorem lj_q_pre {c d : Nat} {t : Nat → Nat} (hc : c < 4096) (hd : d ≤ 4) (ht : ∀ e, e < d → t e < 8) : lj_q c d = lj_pre t d ↔ ∀ e, e < d → t e = lj_dg c e := by
  rw [lj_pre_q hc d hd]
  constructor
  · intro h e he
    exact (lj_pre_inj d (fun e _ => lj_dg_lt c e) ht h e he).symm
  · intro h
    exact lj_pre_eq d (fun e he => (h e he).symm)
def lj_up (t : Nat → Nat) (k v : Nat) : Nat → Nat := fun j => if j = k then v else t j
theorem lj_up_s {t : Nat → Nat} {k v : Nat} : lj_up t k v k = v := if_pos rfl
theorem lj_up_n {t : Nat → Nat} {k v j : Nat} (h : j ≠ k) : lj_up t k v j = t j := if_neg h
/-- an answer: every digit is allowed behind those ahead of it -/
def lj_A (al : Nat → (Nat → Nat) → Nat → Prop) (c : Nat) : Prop := ∀ d, d < 4 → al d (lj_dg c) (lj_dg c d)
/-- what is allowed for digit d rests on the digits ahead of it alone -/
def lj_cg (al : Nat → (Nat → Nat) → Nat → Prop) : Prop := ∀ d t t' x, (∀ e, e < d → t e = t' e) → al d t x → al d t' x
/-- the search's invariant: digits t below d found, l the least thing looked at next for d -/
def lj_I (al : Nat → (Nat → Nat) → Nat → Prop) (low d : Nat) (t : Nat → Nat) (l : Nat) : Prop :=
  d < 4 ∧ l ≤ 8 ∧ (∀ e, e < d → t e < 8 ∧ al e t (t e)) ∧ (∀ c, c < 4096 → low ≤ c → lj_A al c → lj_pre t d * 8 + l ≤ lj_q c (d + 1)) ∧ lj_q low (d + 1) ≤ lj_pre t d * 8 + l
section
variable {al : Nat → (Nat → Nat) → Nat → Prop} {low d l x : Nat} {t : Nat → Nat}
theorem lj_I_0 (hl : low < 4096) (t : Nat → Nat) : lj_I al low 0 t (lj_dg low 0) := by
  have e := lj_q_s hl (show 0 < 4 by omega)
  have e0 : lj_q low 0 = 0 := rfl
  have p0 : lj_pre t 0 = 0 := rfl
  refine ⟨by omega, Nat.le_of_lt (lj_dg_lt low 0), fun e he => absurd he (by omega), fun c hc h _ => ?_, by omega⟩
  have := lj_q_mono h (0 + 1)
  omega
/-- a digit is found: digits below d + 1 -/
theorem lj_down (hc : lj_cg al) (I : lj_I al low d t l) (hx : lj_L 8 (al d t) l x) (h8 : x < 8) :
    (∀ e, e < d + 1 → lj_up t d x e < 8 ∧ al e (lj_up t d x) (lj_up t d x e)) ∧ (∀ c, c < 4096 → low ≤ c → lj_A al c → lj_pre (lj_up t d x) (d + 1) ≤ lj_q c (d + 1)) ∧ lj_q low (d + 1) ≤ lj_pre (lj_up t d x) (d + 1) := by
  obtain ⟨hd, hl, h1, h2, h3⟩ := I
  obtain ⟨x1, x2, x3, x4⟩ := hx
  have ee : ∀ e, e < d → t e = lj_up t d x e := fun e he => (lj_up_n (by omega)).symm
  have pe : lj_pre (lj_up t d x) (d + 1) = lj_pre t d * 8 + x := by
    rw [lj_pre_s, lj_up_s, ← lj_pre_eq d ee]
  refine ⟨fun e he => ?_, fun c c1 c2 c3 => ?_, by omega⟩
  · by_cases c : e = d
    · subst c
      rw [lj_up_s]
      exact ⟨h8, hc e t _ x ee (x3 h8)⟩
    · rw [lj_up_n c]
      exact ⟨(h1 e (by omega)).1, hc e t _ _ (fun f hf => ee f (by omega)) (h1 e (by omega)).2⟩
  · have g := h2 c c1 c2 c3
    rw [pe]
    have qs := lj_q_s c1 hd
    have gl := lj_dg_lt c d
    by_cases k : lj_q c d = lj_pre t d
    · have te := (lj_q_pre c1 (by omega) (fun e he => (h1 e he).1)).mp k
      have ok : al d t (lj_dg c d) := hc d (lj_dg c) t _ (fun e he => (te e he).symm) (c3 d hd)
      rcases Nat.lt_or_ge (lj_dg c d) x with w | w
      · exact absurd ok (x4 _ (by omega) w)
      · omega
    · omega
/-- the last digit is found -/
theorem lj_down_end (hc : lj_cg al) (hl : low < 4096) (I : lj_I al low 3 t l) (hx : lj_L 8 (al 3 t) l x) (h8 : x < 8) : lj_L 4096 (lj_A al) low (lj_pre (lj_up t 3 x) 4) := by
  obtain ⟨h1, h2, h3⟩ := lj_down hc I hx h8
  have lt := lj_pre_lt (fun e he => (h1 e he).1)
  have h2' : ∀ c, c < 4096 → low ≤ c → lj_A al c → lj_pre (lj_up t 3 x) 4 ≤ c := h2
  have h3' : low ≤ lj_pre (lj_up t 3 x) 4 := h3
  refine ⟨h3', Nat.le_of_lt lt, fun _ => ?_, fun y y1 y2 y3 => ?_⟩
  · have te := (lj_q_pre (t := lj_up t 3 x) lt (Nat.le_refl 4) (fun e he => (h1 e he).1)).mp rfl
    intro d hd
    rw [← te d hd]
    exact hc d _ _ _ (fun e he => te e (by omega)) (h1 d hd).2
  · have := h2' y (by omega) y1 y3
    omega
/-- a digit is found and it isn't the last -/
theorem lj_down_go (hc : lj_cg al) (hl : low < 4096) (I : lj_I al low d t l) (hx : lj_L 8 (al d t) l x) (h8 : x < 8) (hd : d < 3) {l' : Nat}
    (hl' : ((∀ e, e < d + 1 → lj_up t d x e = lj_dg low e) ∧ l' = lj_dg low (d + 1)) ∨ (¬ (∀ e, e < d + 1 → lj_up t d x e = lj_dg low e) ∧ l' = 0)) : lj_I al low (d + 1) (lj_up t d x) l' := by
  obtain ⟨h1, h2, h3⟩ := lj_down hc I hx h8
  have ql := lj_q_s hl (show d + 1 < 4 by omega)
  have tt := lj_q_pre (t := lj_up t d x) hl (show d + 1 ≤ 4 by omega) (fun e he => (h1 e he).1)
  have gl := lj_dg_lt low (d + 1)
  rcases hl' with ⟨a, b⟩ | ⟨a, b⟩
  · have k := tt.mpr a
    refine ⟨by omega, by omega, h1, fun c c1 c2 c3 => ?_, by omega⟩
    have := lj_q_mono c2 (d + 1 + 1)
    omega
  · have k : ¬ lj_q low (d + 1) = lj_pre (lj_up t d x) (d + 1) := fun z => a (tt.mp z)
    refine ⟨by omega, by omega, h1, fun c c1 c2 c3 => ?_, by omega⟩
    have := h2 c c1 c2 c3
    have := lj_q_s c1 (show d + 1 < 4 by omega)
    omega
theorem lj_back (hc : lj_cg al) (I : lj_I al low d t l) (hx : lj_L 8 (al d t) l 8) : ∀ c, c < 4096 → low ≤ c → lj_A al c → lj_pre t d + 1 ≤ lj_q c d := by
  obtain ⟨hd, hl, h1, h2, h3⟩ := I
  obtain ⟨x1, x2, x3, x4⟩ := hx
  intro c c1 c2 c3
  have g := h2 c c1 c2 c3
  have qs := lj_q_s c1 hd
  have gl := lj_dg_lt c d
  by_cases k : lj_q c d = lj_pre t d
  · have te := (lj_q_pre c1 (by omega) (fun e he => (h1 e he).1)).mp k
    have ok : al d t (lj_dg c d) := hc d (lj_dg c) t _ (fun e he => (te e he).symm) (c3 d hd)
    exact absurd ok (x4 _ (by omega) gl)
  · omega
theorem lj_back_end (hc : lj_cg al) (hl : low < 4096) (I : lj_I al low 0 t l) (hx : lj_L 8 (al 0 t) l 8) : lj_L 4096 (lj_A al) low 4096 := by
  have h := lj_back hc I hx
  refine ⟨by omega, by omega, fun z => absurd z (by omega), fun y y1 y2 y3 => ?_⟩
  have a := h y y2 y1 y3
  have b : lj_q y 0 = 0 := rfl
  omega
theorem lj_back_go (hc : lj_cg al) (hl : low < 4096) (I : lj_I al low (d + 1) t l) (hx : lj_L 8 (al (d + 1) t) l 8) : lj_I al low d t (t d + 1) := by
  have h := lj_back hc I hx
  obtain ⟨hd, hl', h1, h2, h3⟩ := I
  have p := lj_pre_s t d
  have td := (h1 d (by omega)).1
  have qs := lj_q_s hl hd
  refine ⟨by omega, by omega, fun e he => h1 e (by omega), fun c c1 c2 c3 => ?_, by omega⟩
  have := h c c1 c2 c3
  omega
end
/-- rounds that a thing at digit d may cost -/
def lj_K : Nat → Nat
  | 0 => 658
  | 1 => 82
  | 2 => 10
  | _ + 3 => 1
theorem lj_K_s {d : Nat} (h : d < 3) : 8 * lj_K (d + 1) + 1 < lj_K d := by
  match d, h with
  | 0, _ => decide
  | 1, _ => decide
  | 2, _ => decide
def lj_ms (t : Nat → Nat) : Nat → Nat
  | 0 => 0
  | d + 1 => lj_ms t d + (7 - t d) * lj_K d + 1
/-- rounds that are left at most -/
def lj_mu (d : Nat) (t : Nat → Nat) (l : Nat) : Nat := lj_ms t d + (8 - l) * lj_K d + 1
theorem lj_ms_eq {t t' : Nat → Nat} : ∀ d, (∀ e, e < d → t e = t' e) → lj_ms t d = lj_ms t' d := by
  intro d
  induction d with
  | zero => intro _; rfl
  | succ d ih =>
    intro h
    show lj_ms t d + (7 - t d) * lj_K d + 1 = lj_ms t' d + (7 - t' d) * lj_K d + 1
    rw [ih (fun e he => h e (by omega)), h d (by omega)]
theorem lj_mu_0 (t : Nat → Nat) (l : Nat) : lj_mu 0 t l ≤ 5265 := by
  show 0 + (8 - l) * 658 + 1 ≤ 5265
  omega
theorem lj_mu_pos (d : Nat) (t : Nat → Nat) (l : Nat) : 0 < lj_mu d t l := Nat.succ_pos _
theorem lj_mu_down {d l x l' : Nat} {t : Nat → Nat} (hd : d < 3) (hl : l ≤ x) (h8 : x < 8) : lj_mu (d + 1) (lj_up t d x) l' < lj_mu d t l := by
  have e1 : lj_ms (lj_up t d x) (d + 1) = lj_ms t d + (7 - x) * lj_K d + 1 := by
    show lj_ms (lj_up t d x) d + (7 - lj_up t d x d) * lj_K d + 1 = _
    rw [lj_up_s, ← lj_ms_eq d (fun e he => (lj_up_n (by omega)).symm)]
  have e2 : (8 - x) * lj_K d = (7 - x) * lj_K d + lj_K d := by
    rw [show 8 - x = (7 - x) + 1 by omega, Nat.add_mul, Nat.one_mul]
  have e3 : (8 - x) * lj_K d ≤ (8 - l) * lj_K d := Nat.mul_le_mul_right _ (by omega)
  have e4 : (8 - l') * lj_K (d + 1) ≤ 8 * lj_K (d + 1) := Nat.mul_le_mul_right _ (by omega)
  have e5 := lj_K_s hd
  unfold lj_mu
  omega
theorem lj_mu_back {d l : Nat} {t : Nat → Nat} : lj_mu d t (t d + 1) < lj_mu (d + 1) t l := by
  have e1 : lj_ms t (d + 1) = lj_ms t d + (7 - t d) * lj_K d + 1 := rfl
  have e2 : 8 - (t d + 1) = 7 - t d := by omega
  unfold lj_mu
  rw [e1, e2]
  omega
end
section
/-- what f makes of s over the numbers below n that are p, from the least on -/
noncomputable def lj_fd {α : Type} (p : Nat → Prop) (f : Nat → α → α) (s : α) : Nat → α
  | 0 => s
  | n + 1 => @ite α (p n) (Classical.propDecidable (p n)) (f n (lj_fd p f s n)) (lj_fd p f s n)
theorem lj_fd_t {α : Type} {p : Nat → Prop} {f : Nat → α → α} {s : α} {n : Nat} (h : p n) : lj_fd p f s (n + 1) = f n (lj_fd p f s n) := if_pos h
theorem lj_fd_f {α : Type} {p : Nat → Prop} {f : Nat → α → α} {s : α} {n : Nat} (h : ¬ p n) : lj_fd p f s (n + 1) = lj_fd p f s n := if_neg h
theorem lj_fd_skip {α : Type} {p : Nat → Prop} {f : Nat → α → α} {s : α} {x z : Nat} (hx : x ≤ z) (h : ∀ y, x ≤ y → y < z → ¬ p y) : lj_fd p f s z = lj_fd p f s x := by
  induction z with
  | zero => rw [show x = 0 by omega]
  | succ z ih =>
    by_cases e : x = z + 1
    · rw [e]
    · rw [lj_fd_f (h z (by omega) (by omega))]
      exact ih (by omega) (fun y a b => h y a (by omega))
/-- a fold goes on from one p to the next -/
theorem lj_fd_next {α : Type} {p : Nat → Prop} {f : Nat → α → α} {s : α} {N z z' : Nat} (h : p z) (hz : lj_L N p (z + 1) z') : lj_fd p f s z' = f z (lj_fd p f s z) := by
  rw [lj_fd_skip hz.1 hz.2.2.2, lj_fd_t h]
theorem lj_fd_first {α : Type} {p : Nat → Prop} {f : Nat → α → α} {s : α} {N z : Nat} (hz : lj_L N p 0 z) : lj_fd p f s z = s := lj_fd_skip hz.1 hz.2.2.2
/-- two folds side by side -/
theorem lj_fd_rel {α β : Type} {p : Nat → Prop} {f : Nat → α → α} {g : Nat → β → β} {s : α} {r : β} (Q : α → β → Prop) (h0 : Q s r) (hs : ∀ n a b, Q a b → Q (f n a) (g n b)) : ∀ n, Q (lj_fd p f s n) (lj_fd p g r n) := by
  intro n
  induction n with
  | zero => exact h0
  | succ n ih =>
    by_cases e : p n
    · rw [lj_fd_t e, lj_fd_t e]
      exact hs n _ _ ih
    · rw [lj_fd_f e, lj_fd_f e]
      exact ih
/-- how many numbers below n are p -/
noncomputable def lj_ct (p : Nat → Prop) (n : Nat) : Nat := lj_fd p (fun _ k => k + 1) 0 n
theorem lj_ct_t {p : Nat → Prop} {n : Nat} (h : p n) : lj_ct p (n + 1) = lj_ct p n + 1 := lj_fd_t h
theorem lj_ct_f {p : Nat → Prop} {n : Nat} (h : ¬ p n) : lj_ct p (n + 1) = lj_ct p n := lj_fd_f h
theorem lj_ct_s (p : Nat → Prop) (n : Nat) : lj_ct p n ≤ lj_ct p (n + 1) ∧ lj_ct p (n + 1) ≤ lj_ct p n + 1 := by
  by_cases e : p n
  · rw [lj_ct_t e]; omega
  · rw [lj_ct_f e]; omega
theorem lj_ct_le (p : Nat → Prop) (n : Nat) : lj_ct p n ≤ n := by
  induction n with
  | zero => exact Nat.le_refl 0
  | succ n ih =>
    have := lj_ct_s p n
    omega
theorem lj_ct_mono (p : Nat → Prop) {a b : Nat} (h : a ≤ b) : lj_ct p a ≤ lj_ct p b := by
  induction b with
  | zero => rw [show a = 0 by omega]; exact Nat.le_refl _
  | succ b ih =>
    by_cases e : a = b + 1
    · rw [e]; exact Nat.le_refl _
    · have := lj_ct_s p b
      have := ih (by omega)
      omega
theorem lj_ct_sub {p q : Nat → Prop} (h : ∀ y, p y → q y) (n : Nat) : lj_ct p n ≤ lj_ct q n := by
  induction n with
  | zero => exact Nat.le_refl 0
  | succ n ih =>
    by_cases e : p n
    · rw [lj_ct_t e, lj_ct_t (h n e)]; omega
    · rw [lj_ct_f e]
      have := lj_ct_s q n
      omega
/-- two p's with the same number of p's below are one -/
theorem lj_ct_inj {p : Nat → Prop} {a b : Nat} (ha : p a) (hb : p b) (h : lj_ct p a = lj_ct p b) : a = b := by
  rcases Nat.lt_trichotomy a b with c | c | c
  · have := lj_ct_mono p (show a + 1 ≤ b from c)
    rw [lj_ct_t ha] at this
    omega
  · exact c
  · have := lj_ct_mono p (show b + 1 ≤ a from c)
    rw [lj_ct_t hb] at this
    omega
theorem lj_ct_next {p : Nat → Prop} {N z z' : Nat} (h : p z) (hz : lj_L N p (z + 1) z') : lj_ct p z' = lj_ct p z + 1 := lj_fd_next h hz
theorem lj_ct_first {p : Nat → Prop} {N z : Nat} (hz : lj_L N p 0 z) : lj_ct p z = 0 := lj_fd_first hz
theorem lj_ct_from {p : Nat → Prop} {N x z : Nat} (hz : lj_L N p x z) : lj_ct p z = lj_ct p x := lj_fd_skip hz.1 hz.2.2.2
/-- how many of the bits 0 .. n-1 of s are set -/
def lj_pc (s : Nat) : Nat → Nat
  | 0 => 0
  | n + 1 => lj_pc s n + (s.testBit n).toNat
theorem lj_pc_s (s n : Nat) : lj_pc s (n + 1) = lj_pc s n + (s.testBit n).toNat := rfl
theorem lj_or_bit (s g i : Nat) : (s ||| 2 ^ g).testBit i = (s.testBit i || decide (g = i)) := by
  rw [Nat.testBit_or, Nat.testBit_two_pow]
theorem lj_pc_or (s g : Nat) : ∀ n, lj_pc (s ||| 2 ^ g) n = lj_pc s n + (if g < n ∧ s.testBit g = false then 1 else 0) := by
  intro n
  induction n with
  | zero => rw [if_neg (by omega)]; rfl
  | succ n ih =>
    rw [lj_pc_s, lj_pc_s, ih, lj_or_bit]
    by_cases e : g = n
    · subst e
      rw [if_neg (by omega), decide_eq_true rfl, Bool.or_true]
      cases h : s.testBit g
      · rw [if_pos ⟨by omega, rfl⟩]; rfl
      · rw [if_neg (fun z => absurd z.2 (by decide))]; rfl
    · rw [decide_eq_false e, Bool.or_false]
      cases h : s.testBit g
      · by_cases c : g < n
        · rw [if_pos ⟨c, rfl⟩, if_pos ⟨by omega, rfl⟩]; omega
        · rw [if_neg (fun z => c z.1), if_neg (fun z => absurd z.1 (by omega))]; omega
      · rw [if_neg (fun z => absurd z.2 (by decide)), if_neg (fun z => absurd z.2 (by decide))]; omega
theorem lj_pc_0 : ∀ n, lj_pc 0 n = 0 := by
  intro n
  induction n with
  | zero => rfl
  | succ n ih => rw [lj_pc_s, ih, Nat.zero_testBit]; rfl
theorem lj_or_lt {s g n : Nat} (hs : s < 2 ^ n) (hg : g < n) : s ||| 2 ^ g < 2 ^ n := Nat.or_lt_two_pow hs (Nat.pow_lt_pow_right (by decide) hg)
/-- sums -/
def lj_sum (f : Nat → Nat) : Nat → Nat
  | 0 => 0
  | n + 1 => lj_sum f n + f n
theorem lj_sum_s (f : Nat → Nat) (n : Nat) : lj_sum f (n + 1) = lj_sum f n + f n := rfl
theorem lj_sum_add (f g : Nat → Nat) (n : Nat) : lj_sum (fun i => f i + g i) n = lj_sum f n + lj_sum g n := by
  induction n with
  | zero => rfl
  | succ n ih => rw [lj_sum_s, lj_sum_s, lj_sum_s, ih]; omega
theorem lj_sum_eq {f g : Nat → Nat} : ∀ n, (∀ i, i < n → f i = g i) → lj_sum f n = lj_sum g n := by
  intro n
  induction n with
  | zero => intro _; rfl
  | succ n ih => intro h; rw [lj_sum_s, lj_sum_s, ih (fun i hi => h i (by omega)), h n (by omega)]
theorem lj_sum_z (n : Nat) : lj_sum (fun _ => 0) n = 0 := by
  induction n with
  | zero => rfl
  | succ n ih => rw [lj_sum_s, ih]
theorem lj_sum_swap (f : Nat → Nat → Nat) (n k : Nat) : lj_sum (fun x => lj_sum (fun y => f x y) k) n = lj_sum (fun y => lj_sum (fun x => f x y) n) k := by
  induction n with
  | zero => exact (lj_sum_z k).symm
  | succ n ih =>
    rw [lj_sum_s, ih, ← lj_sum_add]
    rfl
theorem lj_pc_sum (s : Nat) : ∀ n, lj_pc s n = lj_sum (fun i => (s.testBit i).toNat) n := by
  intro n
  induction n with
  | zero => rfl
  | succ n ih => rw [lj_pc_s, lj_sum_s, ih]
theorem lj_sum_one : ∀ k, k < 8 → lj_sum (fun i => if k = i then 1 else 0) 8 = 1 := by decide
/-- what countWith(v, x), values(v) and pairs(v, w) make up to n -/
noncomputable def lj_cw (p : Nat → Prop) (v x n : Nat) : Nat := lj_fd p (fun c k => k + (if lj_dg c v = x then 1 else 0)) 0 n
noncomputable def lj_vs (p : Nat → Prop) (v n : Nat) : Nat := lj_fd p (fun c s => s ||| 2 ^ lj_dg c v) 0 n
noncomputable def lj_ps (p : Nat → Prop) (v w n : Nat) : Nat := lj_fd p (fun c s => s ||| 2 ^ (8 * lj_dg c v + lj_dg c w)) 0 n
theorem lj_vs_lt (p : Nat → Prop) (v n : Nat) : lj_vs p v n < 256 :=
  lj_fd_rel (p := p) (r := 0) (f := fun c s => s ||| 2 ^ lj_dg c v) (g := fun c s => s ||| 2 ^ lj_dg c v) (fun a _ => a < 2 ^ 8) (by decide : (0 : Nat) < 2 ^ 8) (fun c a _ h => lj_or_lt h (lj_dg_lt c v)) n
theorem lj_ps_lt (p : Nat → Prop) (v w n : Nat) : lj_ps p v w n < 2 ^ 64 :=
  lj_fd_rel (p := p) (r := 0) (f := fun c s => s ||| 2 ^ (8 * lj_dg c v + lj_dg c w)) (g := fun c s => s ||| 2 ^ (8 * lj_dg c v + lj_dg c w)) (fun a _ => a < 2 ^ 64) (by decide : (0 : Nat) < 2 ^ 64) (fun c a _ h => lj_or_lt h (by have := lj_dg_lt c v; have := lj_dg_lt c w; omega)) n
theorem lj_cw_le (p : Nat → Prop) (v x n : Nat) : lj_cw p v x n ≤ lj_ct p n :=
  lj_fd_rel (fun a b => a ≤ b) (Nat.le_refl 0) (fun c a b h => by
    show a + (if lj_dg c v = x then 1 else 0) ≤ b + 1
    split <;> omega) n
/-- (many > 0) == (the bit of set) -/
theorem lj_cw_vs (p : Nat → Prop) (v x n : Nat) : 0 < lj_cw p v x n ↔ (lj_vs p v n).testBit x = true := by
  refine lj_fd_rel (p := p) (fun (a b : Nat) => 0 < a ↔ b.testBit x = true) ?_ (fun c a b h => ?_) n
  · rw [Nat.zero_testBit]
    exact ⟨fun z => absurd z (by omega), fun z => absurd z (by decide)⟩
  · show 0 < a + (if lj_dg c v = x then 1 else 0) ↔ (b ||| 2 ^ lj_dg c v).testBit x = true
    rw [lj_or_bit, Bool.or_eq_true, decide_eq_true_iff, ← h]
    by_cases e : lj_dg c v = x
    · rw [if_pos e]
      exact ⟨fun _ => Or.inr e, fun _ => by omega⟩
    · rw [if_neg e]
      exact ⟨fun z => Or.inl (by omega), fun z => z.elim (fun a => by omega) (fun a => absurd a e)⟩
/-- the counts by one variable's things sum up to the count -/
theorem lj_cw_sum (p : Nat → Prop) (v n : Nat) : lj_sum (fun x => lj_cw p v x n) 8 = lj_ct p n := by
  induction n with
  | zero => exact lj_sum_z 8
  | succ n ih =>
    by_cases e : p n
    · have h : lj_sum (fun x => lj_cw p v x (n + 1)) 8 = lj_sum (fun x => lj_cw p v x n + (if lj_dg n v = x then 1 else 0)) 8 := lj_sum_eq 8 (fun i _ => lj_fd_t e)
      rw [h, lj_sum_add, ih, lj_sum_one _ (lj_dg_lt n v), lj_ct_t e]
    · have h : lj_sum (fun x => lj_cw p v x (n + 1)) 8 = lj_sum (fun x => lj_cw p v x n) 8 := lj_sum_eq 8 (fun i _ => lj_fd_f e)
      rw [h, ih, lj_ct_f e]
/-- pairs(v, v) is the number of values(v) -/
theorem lj_ps_vv (p : Nat → Prop) (v n : Nat) : lj_pc (lj_ps p v v n) 64 = lj_pc (lj_vs p v n) 8 := by
  have h : lj_pc (lj_ps p v v n) 64 = lj_pc (lj_vs p v n) 8 ∧ ∀ x, x < 8 → (lj_ps p v v n).testBit (9 * x) = (lj_vs p v n).testBit x := by
    refine lj_fd_rel (p := p) (fun (a b : Nat) => lj_pc a 64 = lj_pc b 8 ∧ ∀ x, x < 8 → a.testBit (9 * x) = b.testBit x) ?_ (fun c a b h => ?_) n
    · exact ⟨by rw [lj_pc_0, lj_pc_0], fun x _ => by rw [Nat.zero_testBit, Nat.zero_testBit]⟩
    · obtain ⟨h1, h2⟩ := h
      have g := lj_dg_lt c v
      show lj_pc (a ||| 2 ^ (8 * lj_dg c v + lj_dg c v)) 64 = lj_pc (b ||| 2 ^ lj_dg c v) 8 ∧ ∀ x, x < 8 → (a ||| 2 ^ (8 * lj_dg c v + lj_dg c v)).testBit (9 * x) = (b ||| 2 ^ lj_dg c v).testBit x
      rw [show 8 * lj_dg c v + lj_dg c v = 9 * lj_dg c v by omega]
      refine ⟨?_, fun x hx => ?_⟩
      · rw [lj_pc_or, lj_pc_or, h1, h2 _ g]
        by_cases k : b.testBit (lj_dg c v) = false
        · rw [if_pos ⟨by omega, k⟩, if_pos ⟨g, k⟩]
        · rw [if_neg (fun z => k z.2), if_neg (fun z => k z.2)]
      · rw [lj_or_bit, lj_or_bit, h2 x hx]
        by_cases k : lj_dg c v = x
        · rw [decide_eq_true (show 9 * lj_dg c v = 9 * x by omega), decide_eq_true k]
        · rw [decide_eq_false (show ¬ 9 * lj_dg c v = 9 * x by omega), decide_eq_false k]
  exact h.1
/-- pairs(v, w) isn't more than the count -/
theorem lj_ps_le (p : Nat → Prop) (v w n : Nat) : lj_pc (lj_ps p v w n) 64 ≤ lj_ct p n := by
  refine lj_fd_rel (p := p) (fun (a b : Nat) => lj_pc a 64 ≤ b) ?_ (fun c a b h => ?_) n
  · rw [lj_pc_0]; exact Nat.le_refl 0
  · show lj_pc (a ||| 2 ^ (8 * lj_dg c v + lj_dg c w)) 64 ≤ b + 1
    rw [lj_pc_or]
    split <;> omega
/-- the rows' sums are the columns' -/
theorem lj_rc {f g : Nat → Nat} (h : ∀ x y, x < 8 → y < 8 → (f x).testBit y = (g y).testBit x) : lj_sum (fun x => lj_pc (f x) 8) 8 = lj_sum (fun y => lj_pc (g y) 8) 8 := by
  have e1 : lj_sum (fun x => lj_pc (f x) 8) 8 = lj_sum (fun x => lj_sum (fun y => ((f x).testBit y).toNat) 8) 8 := lj_sum_eq 8 (fun i _ => lj_pc_sum _ 8)
  have e2 : lj_sum (fun y => lj_pc (g y) 8) 8 = lj_sum (fun y => lj_sum (fun x => ((f x).testBit y).toNat) 8) 8 := lj_sum_eq 8 (fun y hy => by rw [lj_pc_sum]; exact lj_sum_eq 8 (fun x hx => by rw [h x y hx hy]))
  rw [e1, e2]
  exact lj_sum_swap _ 8 8
end
section
/-! Int32 and Int64 facts; the rows wb_.. are the kit's (BITS.to-paste) -/
theorem wb_tb (n : Nat) : (lN n).toBitVec = BitVec.ofNat 64 n := rfl
theorem wb_inj {a b : Int64} (h : a.toBitVec = b.toBitVec) : a = b := Int64.toBitVec_inj.mp h
theorem wb_tn {n : Nat} (h : n < 2 ^ 64) : (lN n).toBitVec.toNat = n := by rw [wb_tb, BitVec.toNat_ofNat, Nat.mod_eq_of_lt h]
theorem wb_of (x : Int64) : ∃ n, n < 2 ^ 64 ∧ x = lN n := ⟨x.toBitVec.toNat, x.toBitVec.isLt, wb_inj (by rw [wb_tb]; simp)⟩
theorem wb_of32 (x : Int32) : ∃ n, n < 2 ^ 32 ∧ x = nI n := ⟨x.toBitVec.toNat, x.toBitVec.isLt, Int32.toBitVec_inj.mp (by show _ = BitVec.ofNat 32 _; simp)⟩
theorem wb_c : ∀ k, k < 64 → ((nI k).toInt64 &&& 63) = lN k := by decide +kernel
theorem wb_cu : ∀ k, k < 64 → ((nI k).toInt64.toUInt64 &&& Int64.toUInt64 63) = UInt64.ofNat k := by decide +kernel
theorem wb_sm : ∀ k, k < 64 → (BitVec.ofNat 64 k).smod 64 = BitVec.ofNat 64 k := by decide +kernel
theorem wb_pw {a b : Nat} (h : a ≤ b) : 2 ^ b = 2 ^ a * 2 ^ (b - a) := by rw [← Nat.pow_add]; congr 1; omega
theorem wb_lt2 {a b : Nat} (h : a < b) : 2 ^ a < 2 ^ b := Nat.pow_lt_pow_right (by decide) h
theorem wb_mod (n : Nat) : lN n = lN (n % 2 ^ 64) := wb_inj (by rw [wb_tb, wb_tb]; apply BitVec.eq_of_toNat_eq; rw [BitVec.toNat_ofNat, BitVec.toNat_ofNat, Nat.mod_mod])
theorem wb_shr {n k : Nat} (hn : n < 2 ^ 64) (hk : k < 64) : ((lN n).toUInt64 >>> ((nI k).toInt64.toUInt64 &&& Int64.toUInt64 63)).toInt64 = lN (n / 2 ^ k) := by
  rw [wb_cu k hk]
  apply wb_inj
  apply BitVec.eq_of_toNat_eq
  show ((lN n).toUInt64 >>> UInt64.ofNat k).toNat = (BitVec.ofNat 64 _).toNat
  have h1 : (UInt64.ofNat k).toNat = k := by
    show (BitVec.ofNat 64 k).toNat = k
    rw [BitVec.toNat_ofNat, Nat.mod_eq_of_lt (by omega)]
  have h2 : (lN n).toUInt64.toNat = n := wb_tn hn
  rw [UInt64.toNat_shiftRight, h1, h2, Nat.mod_eq_of_lt hk, Nat.shiftRight_eq_div_pow, BitVec.toNat_ofNat, Nat.mod_eq_of_lt (Nat.lt_of_le_of_lt (Nat.div_le_self _ _) hn)]
theorem wb_shl (n : Nat) {k : Nat} (hk : k < 64) : lN n <<< ((nI k).toInt64 &&& 63) = lN (n * 2 ^ k) := by
  rw [wb_c k hk]
  apply wb_inj
  rw [Int64.toBitVec_shiftLeft, wb_tb, wb_tb, wb_tb, wb_sm k hk]
  apply BitVec.eq_of_toNat_eq
  rw [BitVec.shiftLeft_eq', BitVec.toNat_shiftLeft, BitVec.toNat_ofNat, BitVec.toNat_ofNat, BitVec.toNat_ofNat, Nat.mod_eq_of_lt (show k < 2 ^ 64 by omega), Nat.shiftLeft_eq, Nat.mul_mod, Nat.mod_mod, ← Nat.mul_mod]
theorem wb_and {a b : Nat} (ha : a < 2 ^ 64) (hb : b < 2 ^ 64) : lN a &&& lN b = lN (a &&& b) := by
  apply wb_inj
  rw [Int64.toBitVec_and, wb_tb, wb_tb, wb_tb]
  apply BitVec.eq_of_toNat_eq
  rw [BitVec.toNat_and, BitVec.toNat_ofNat, BitVec.toNat_ofNat, BitVec.toNat_ofNat, Nat.mod_eq_of_lt ha, Nat.mod_eq_of_lt hb, Nat.mod_eq_of_lt (Nat.and_lt_two_pow _ hb)]
theorem wb_or {a b : Nat} (ha : a < 2 ^ 64) (hb : b < 2 ^ 64) : lN a ||| lN b = lN (a ||| b) := by
  apply wb_inj
  rw [Int64.toBitVec_or, wb_tb, wb_tb, wb_tb]
  apply BitVec.eq_of_toNat_eq
  rw [BitVec.toNat_or, BitVec.toNat_ofNat, BitVec.toNat_ofNat, BitVec.toNat_ofNat, Nat.mod_eq_of_lt ha, Nat.mod_eq_of_lt hb, Nat.mod_eq_of_lt (Nat.or_lt_two_pow ha hb)]
theorem wb_mask {n k : Nat} (hn : n < 2 ^ 64) (hk : k < 64) : lN n &&& lN (2 ^ k - 1) = lN (n % 2 ^ k) := by
  rw [wb_and hn (by have := wb_lt2 hk; omega), Nat.and_two_pow_sub_one_eq_mod]
theorem wb_a1 {n : Nat} (hn : n < 2 ^ 64) : lN n &&& 1 = lN (n % 2) := wb_mask (k := 1) hn (by decide)
theorem wb_bit {n k : Nat} (hn : n < 2 ^ 64) (hk : k < 64) : ((lN n).toUInt64 >>> ((nI k).toInt64.toUInt64 &&& Int64.toUInt64 63)).toInt64 &&& 1 = lN (n / 2 ^ k % 2) := by
  rw [wb_shr hn hk, wb_a1 (Nat.lt_of_le_of_lt (Nat.div_le_self _ _) hn)]
def lj_f (O : Nat → Nat) : Nat → Int32 := fun j => nI (O j)
theorem lj_fa {O : Nat → Nat} {x : Int32} (k : Nat) (hx : x = nI k := by rfl) (h : k < 2 ^ 31 := by omega) : lj_f O x.toNatClampNeg = nI (O k) := by
  rw [hx]
  unfold lj_f
  rw [nI_clamp h]
theorem lj_fup (O : Nat → Nat) (k w : Nat) : upd (lj_f O) k (nI w) = lj_f (lj_up O k w) := by
  funext j
  unfold lj_f lj_up
  by_cases e : j = k
  · rw [if_pos e, e, pk_us]
  · rw [if_neg e, pk_un e]
abbrev lj_u (m : Nat) (O B R F S : Nat → Nat) (a6 a7 : Nat → Int32) : St1 := (nI m, lj_f O, lj_f B, lj_f R, lj_f F, lj_f S, a6, a7)
theorem lj_sl : ∀ n, n < 32 → ((nI n &&& 31).toBitVec.smod 32).toNat = n := by decide +kernel
theorem lj_bit {k y : Nat} (hk : k < 2 ^ 31) (hy : y < 32) : (nI k >>> (nI y &&& 31)) &&& 1 = nI (k.testBit y).toNat := by
  rw [pk_shrN hk _ y (lj_sl y hy), pk_andN (Nat.lt_of_le_of_lt (Nat.div_le_self _ _) (by omega)) 1 (by decide +kernel), Nat.toNat_testBit]
theorem lj_dig {c e : Nat} (hc : c < 2 ^ 31) (he : e < 4) : (nI c >>> ((9 - (3 * nI e)) &&& 31)) &&& 7 = nI (lj_dg c e) := by
  have hd : ∀ k, c / k < 2 ^ 32 := fun k => Nat.lt_of_le_of_lt (Nat.div_le_self _ _) (by omega)
  match e, he with
  | 0, _ =>
    rw [pk_shrN hc _ 9 (by decide +kernel), pk_andN (hd _) 3 (by decide +kernel)]
    rfl
  | 1, _ =>
    rw [pk_shrN hc _ 6 (by decide +kernel), pk_andN (hd _) 3 (by decide +kernel)]
    rfl
  | 2, _ =>
    rw [pk_shrN hc _ 3 (by decide +kernel), pk_andN (hd _) 3 (by decide +kernel)]
    rfl
  | 3, _ =>
    rw [pk_shrN hc _ 0 (by decide +kernel), pk_andN (hd _) 3 (by decide +kernel), Nat.pow_zero, Nat.div_one]
    rfl
theorem lj_i8 : ∀ x, x < 128 → (nI x).toInt8.toInt32 = nI x := by decide +kernel
/-- bit y taken out -/
def lj_cl (k y : Nat) : Nat := if k.testBit y = true then k - 2 ^ y else k
theorem lj_put0 : ∀ k, k < 256 → ∀ y, y < 8 → ((nI k &&& (((1 : Int32) <<< (nI y &&& 31)) ^^^ (-1))).toInt16.toInt32) = nI (lj_cl k y) := by decide +kernel
theorem lj_put1 : ∀ k, k < 256 → ∀ y, y < 8 → ((nI k ||| ((1 : Int32) <<< (nI y &&& 31))).toInt16.toInt32) = nI (k ||| 2 ^ y) := by decide +kernel
theorem lj_or1 : ∀ k, k < 256 → ∀ y, y < 8 → (nI k ||| ((1 : Int32) <<< (nI y &&& 31))) = nI (k ||| 2 ^ y) := by decide +kernel
theorem lj_cl_le (k y : Nat) : lj_cl k y ≤ k := by
  unfold lj_cl
  split
  · exact Nat.sub_le _ _
  · exact Nat.le_refl _
theorem lj_cl_bit : ∀ k, k < 256 → ∀ y, y < 8 → ∀ i, i < 8 → (lj_cl k y).testBit i = (k.testBit i && !(decide (y = i))) := by decide +kernel
theorem lj_cl_or : ∀ k, k < 256 → ∀ y, y < 8 → k.testBit y = true → lj_cl k y ||| 2 ^ y = k := by decide +kernel
theorem lj_orl {s g : Nat} (hs : s < 2 ^ 64) (hg : g < 64) : lN s ||| ((1 : Int64) <<< ((nI g).toInt64 &&& 63)) = lN (s ||| 2 ^ g) := by
  rw [show (1 : Int64) = lN 1 from rfl, wb_shl 1 hg, Nat.one_mul, wb_or hs (Nat.pow_lt_pow_right (by decide) hg)]
theorem lj_bitl {s k : Nat} (hs : s < 2 ^ 64) (hk : k < 64) : ((((lN s).toUInt64 >>> ((nI k).toInt64.toUInt64 &&& Int64.toUInt64 63)).toInt64) &&& 1).toInt32 = nI (s.testBit k).toNat := by
  rw [wb_bit hs hk, lN_i, Nat.toNat_testBit]
/-- a search's answer as an int -/
def lj_r (z : Nat) : Int32 := if z < 4096 then nI z else -1
theorem lj_r_t {z : Nat} (h : z < 4096) : lj_r z = nI z := if_pos h
theorem lj_r_f {z : Nat} (h : ¬ z < 4096) : lj_r z = -1 := if_neg h
end
section
/-- the picture is in order: at most 5 atoms, sets of 8 things, and the two ways of a relation agree -/
def lj_wf (m : Nat) (O B R F S : Nat → Nat) : Prop :=
  m ≤ 5 ∧ (∀ j, O j < 256) ∧ (∀ j, B j < 256) ∧ (∀ a, R a < 3) ∧ (∀ a, F a < 4) ∧ (∀ a, S a < 4) ∧ (∀ r x y, r < 3 → x < 8 → y < 8 → (O (r * 8 + x)).testBit y = (B (r * 8 + y)).testBit x)
/-- atom a allows thing x for variable d behind the things t -/
def lj_al (O B R F S : Nat → Nat) (a d : Nat) (t : Nat → Nat) (x : Nat) : Prop :=
  if F a = d then (if S a = d then (O (R a * 8 + x)).testBit x = true else if S a < d then (B (R a * 8 + t (S a))).testBit x = true else ¬ O (R a * 8 + x) = 0)
  else (if F a < d then (O (R a * 8 + t (F a))).testBit x = true else ¬ B (R a * 8 + x) = 0)
/-- all atoms with variable d allow x -/
def lj_all (m : Nat) (O B R F S : Nat → Nat) (d : Nat) (t : Nat → Nat) (x : Nat) : Prop := ∀ a, a < m → (F a = d ∨ S a = d) → lj_al O B R F S a d t x
def lj_h (m : Nat) (F S : Nat → Nat) (d : Nat) : Prop := ∃ a, a < m ∧ (F a = d ∨ S a = d)
def lj_ok (m : Nat) (O B R F S : Nat → Nat) (d : Nat) (t : Nat → Nat) (x : Nat) : Prop := lj_all m O B R F S d t x ∧ (lj_h m F S d ∨ x = 0)
theorem lj_al_cg {O B R F S : Nat → Nat} {a d x : Nat} {t t' : Nat → Nat} (h : ∀ e, e < d → t e = t' e) (k : lj_al O B R F S a d t x) : lj_al O B R F S a d t' x := by
  unfold lj_al at k ⊢
  by_cases c1 : F a = d
  · rw [if_pos c1] at k ⊢
    by_cases c2 : S a = d
    · rw [if_pos c2] at k ⊢; exact k
    · rw [if_neg c2] at k ⊢
      by_cases c3 : S a < d
      · rw [if_pos c3] at k ⊢; rw [← h _ c3]; exact k
      · rw [if_neg c3] at k ⊢; exact k
  · rw [if_neg c1] at k ⊢
    by_cases c3 : F a < d
    · rw [if_pos c3] at k ⊢; rw [← h _ c3]; exact k
    · rw [if_neg c3] at k ⊢; exact k
theorem lj_ok_cg (m : Nat) (O B R F S : Nat → Nat) : lj_cg (lj_ok m O B R F S) := fun _ _ _ _ h k => ⟨fun a ha hh => lj_al_cg h (k.1 a ha hh), k.2⟩
section
variable {m : Nat} {O B R F S : Nat → Nat} {a6 a7 : Nat → Int32} {post : Int32 → Prop}
theorem lj_in {k y : Nat} (hk : k < 2 ^ 31) (hy : y < 32) (h0 : k.testBit y = false → post 0) (h1 : k.testBit y = true → post 1) : wpX_in post () (nI k) (nI y) := by
  unfold wpX_in
  rw [lj_bit hk hy]
  cases h : k.testBit y
  · exact br_t rfl (h0 h)
  · exact br_f (by decide) (h1 h)
theorem lj_digit {c e : Nat} (hc : c < 2 ^ 31) (he : e < 4) (H : post (nI (lj_dg c e))) : wpX_digit post () (nI c) (nI e) := by
  unfold wpX_digit
  rw [lj_dig hc he]
  exact H
theorem lj_has {a d : Nat} (ha : a < 5) (hd : d < 4) (hF : F a < 4) (hS : S a < 4) (h0 : ¬ (F a = d ∨ S a = d) → post 0) (h1 : (F a = d ∨ S a = d) → post 1) : wpX_has post (lj_u m O B R F S a6 a7) (nI a) (nI d) := by
  refine And.intro (pk_in a 5 ha) ?_
  refine pk_eq (F a) d (fun z => h1 (Or.inl z)) (fun z => ⟨pk_in a 5 ha, ?_⟩) (lj_fa a)
  exact pk_eq (S a) d (fun z' => h1 (Or.inr z')) (fun z' => h0 (fun q => q.elim z z')) (lj_fa a)
theorem lj_from {k x : Nat} (hk : k < 256) (hx : x ≤ 8) (H : ∀ z, lj_L 8 (fun y => k.testBit y = true) x z → post (nI z)) : wpX_from post () (nI k) (nI x) := by
  refine loop_m (fun n i => wX_from_2 post (nI k) n (nI i)) (fun i => x ≤ i ∧ i ≤ 8 ∧ ∀ y, x ≤ y → y < i → ¬ k.testBit y = true) (fun i => 8 - i) ?_ x ⟨Nat.le_refl x, hx, fun y h1 h2 => absurd h2 (by omega)⟩
  intro n i ⟨h1, h2, h3⟩ hw
  refine pk_le 8 i (fun z => ?_) (fun z => ?_)
  · have e : i = 8 := by omega
    subst e
    exact H 8 ⟨h1, h2, fun q => absurd q (by omega), h3⟩
  · refine lj_in (by omega) (by omega) (fun hb => ?_) (fun hb => ?_)
    · refine br_t rfl (nm_r (nI_1 i) (hw (i + 1) ⟨by omega, by omega, fun y a b c => ?_⟩ (by omega)))
      by_cases e : y = i
      · rw [e, hb] at c
        exact absurd c (by decide)
      · exact h3 y a (by omega) c
    · exact br_f (by decide) (H i ⟨h1, h2, fun _ => hb, h3⟩)
theorem lj_diag {b x : Nat} (hO : ∀ j, O j < 256) (hb : b + 8 ≤ 24) (hx : x ≤ 8) (H : ∀ z, lj_L 8 (fun y => (O (b + y)).testBit y = true) x z → post (nI z)) : wpX_nextOnDiagonal post (lj_u m O B R F S a6 a7) (nI b) (nI x) := by
  refine loop_m (fun n i => wX_nextOnDiagonal_2 post (nI b) (nI m) (lj_f O) (lj_f B) (lj_f R) (lj_f F) (lj_f S) a6 a7 n (nI i)) (fun i => x ≤ i ∧ i ≤ 8 ∧ ∀ y, x ≤ y → y < i → ¬ (O (b + y)).testBit y = true) (fun i => 8 - i) ?_ x ⟨Nat.le_refl x, hx, fun y h1 h2 => absurd h2 (by omega)⟩
  intro n i ⟨h1, h2, h3⟩ hw
  refine pk_le 8 i (fun z => ?_) (fun z => ⟨pk_in (b + i) 24 (by omega) (nI_add b i), ?_⟩)
  · have e : i = 8 := by omega
    subst e
    exact H 8 ⟨h1, h2, fun q => absurd q (by omega), h3⟩
  · have ho := hO (b + i)
    rw [lj_fa (b + i) (nI_add b i)]
    refine lj_in (by omega) (by omega) (fun hb => ?_) (fun hb => ?_)
    · refine br_t rfl (nm_r (nI_1 i) (hw (i + 1) ⟨by omega, by omega, fun y a b c => ?_⟩ (by omega)))
      by_cases e : y = i
      · rw [e, hb] at c
        exact absurd c (by decide)
      · exact h3 y a (by omega) c
    · exact br_f (by decide) (H i ⟨h1, h2, fun _ => hb, h3⟩)
theorem lj_any1 {b x : Nat} (hO : ∀ j, O j < 256) (hb : b + 8 ≤ 24) (hx : x ≤ 8) (H : ∀ z, lj_L 8 (fun y => ¬ O (b + y) = 0) x z → post (nI z)) : wpX_nextWithAny post (lj_u m O B R F S a6 a7) (nI b) (nI x) 1 := by
  refine loop_m (fun n i => wX_nextWithAny_3 post (nI b) 1 (nI m) (lj_f O) (lj_f B) (lj_f R) (lj_f F) (lj_f S) a6 a7 n (nI i)) (fun i => x ≤ i ∧ i ≤ 8 ∧ ∀ y, x ≤ y → y < i → ¬ ¬ O (b + y) = 0) (fun i => 8 - i) ?_ x ⟨Nat.le_refl x, hx, fun y h1 h2 => absurd h2 (by omega)⟩
  intro n i ⟨h1, h2, h3⟩ hw
  refine pk_le 8 i (fun z => ?_) (fun z => br_f (by decide) ⟨pk_in (b + i) 24 (by omega) (nI_add b i), ?_⟩)
  · have e : i = 8 := by omega
    subst e
    exact H 8 ⟨h1, h2, fun q => absurd q (by omega), h3⟩
  · have ho := hO (b + i)
    rw [lj_fa (b + i) (nI_add b i)]
    refine pk_eq (O (b + i)) 0 (fun hb => ?_) (fun hb => ?_)
    · refine nm_r (nI_1 i) (hw (i + 1) ⟨by omega, by omega, fun y a b c => ?_⟩ (by omega))
      by_cases e : y = i
      · rw [e] at c
        exact c hb
      · exact h3 y a (by omega) c
    · exact H i ⟨h1, h2, fun _ => hb, h3⟩
theorem lj_any0 {b x : Nat} (hB : ∀ j, B j < 256) (hb : b + 8 ≤ 24) (hx : x ≤ 8) (H : ∀ z, lj_L 8 (fun y => ¬ B (b + y) = 0) x z → post (nI z)) : wpX_nextWithAny post (lj_u m O B R F S a6 a7) (nI b) (nI x) 0 := by
  refine loop_m (fun n i => wX_nextWithAny_3 post (nI b) 0 (nI m) (lj_f O) (lj_f B) (lj_f R) (lj_f F) (lj_f S) a6 a7 n (nI i)) (fun i => x ≤ i ∧ i ≤ 8 ∧ ∀ y, x ≤ y → y < i → ¬ ¬ B (b + y) = 0) (fun i => 8 - i) ?_ x ⟨Nat.le_refl x, hx, fun y h1 h2 => absurd h2 (by omega)⟩
  intro n i ⟨h1, h2, h3⟩ hw
  refine pk_le 8 i (fun z => ?_) (fun z => br_t rfl ⟨pk_in (b + i) 24 (by omega) (nI_add b i), ?_⟩)
  · have e : i = 8 := by omega
    subst e
    exact H 8 ⟨h1, h2, fun q => absurd q (by omega), h3⟩
  · have ho := hB (b + i)
    rw [lj_fa (b + i) (nI_add b i)]
    refine pk_eq (B (b + i)) 0 (fun hb => ?_) (fun hb => ?_)
    · refine nm_r (nI_1 i) (hw (i + 1) ⟨by omega, by omega, fun y a b c => ?_⟩ (by omega))
      by_cases e : y = i
      · rw [e] at c
        exact c hb
      · exact h3 y a (by omega) c
    · exact H i ⟨h1, h2, fun _ => hb, h3⟩
theorem lj_al47 {a d x : Nat} {t : Nat → Nat} (hw : lj_wf m O B R F S) (hd : d < 4) (hx : x ≤ 8) (ht : ∀ e, e < d → t e < 8 ∧ a6 e = nI (t e)) (hh : F a = d ∨ S a = d) (hn : ¬ (F a = d ∧ S a = d)) (H : ∀ z, lj_L 8 (lj_al O B R F S a d t) x z → post (nI z)) :
    wX_allowedFrom_47 post (nI d) (nI x) (nI (R a * 8)) (nI (F a)) (nI (S a)) (nI m) (lj_f O) (lj_f B) (lj_f R) (lj_f F) (lj_f S) a6 a7 := by
  obtain ⟨w1, w2, w3, w4, w5, w6, w7⟩ := hw
  have rR := w4 a
  have rF := w5 a
  have rS := w6 a
  refine pk_eq (F a) d (fun c => pk_le d (S a) (fun c2 => ?_) (fun c2 => ?_)) (fun c => pk_le d (F a) (fun c2 => ?_) (fun c2 => ?_))
  · refine lj_any1 w2 (by omega) hx (fun z hz => H z (lj_L_congr (fun y _ => ?_) hz))
    unfold lj_al
    rw [if_pos c, if_neg (fun q => hn ⟨c, q⟩), if_neg (by omega)]
  · obtain ⟨t1, t2⟩ := ht (S a) c2
    have e : nI (R a * 8) + a6 (nI (S a)).toNatClampNeg = nI (R a * 8 + t (S a)) := by rw [nI_clamp (by omega), t2, nI_add]
    refine ⟨pk_in (S a) 4 rS, pk_in (R a * 8 + t (S a)) 24 (by omega) e, ?_⟩
    rw [lj_fa (R a * 8 + t (S a)) e]
    refine lj_from (w3 _) hx (fun z hz => H z (lj_L_congr (fun y _ => ?_) hz))
    unfold lj_al
    rw [if_pos c, if_neg (fun q => hn ⟨c, q⟩), if_pos c2]
  · refine lj_any0 w3 (by omega) hx (fun z hz => H z (lj_L_congr (fun y _ => ?_) hz))
    unfold lj_al
    rw [if_neg c, if_neg (by omega)]
  · obtain ⟨t1, t2⟩ := ht (F a) c2
    have e : nI (R a * 8) + a6 (nI (F a)).toNatClampNeg = nI (R a * 8 + t (F a)) := by rw [nI_clamp (by omega), t2, nI_add]
    refine ⟨pk_in (F a) 4 rF, pk_in (R a * 8 + t (F a)) 24 (by omega) e, ?_⟩
    rw [lj_fa (R a * 8 + t (F a)) e]
    refine lj_from (w2 _) hx (fun z hz => H z (lj_L_congr (fun y _ => ?_) hz))
    unfold lj_al
    rw [if_neg c, if_pos c2]
theorem lj_alF {a d x : Nat} {t : Nat → Nat} (hw : lj_wf m O B R F S) (ha : a < 5) (hd : d < 4) (hx : x ≤ 8) (ht : ∀ e, e < d → t e < 8 ∧ a6 e = nI (t e)) (hh : F a = d ∨ S a = d) (H : ∀ z, lj_L 8 (lj_al O B R F S a d t) x z → post (nI z)) :
    wpX_allowedFrom post (lj_u m O B R F S a6 a7) (nI a) (nI d) (nI x) := by
  have rR := hw.2.2.2.1 a
  have rF := hw.2.2.2.2.1 a
  have rS := hw.2.2.2.2.2.1 a
  have e1 : lj_f R (nI a).toNatClampNeg * 8 = nI (R a * 8) := by
    rw [lj_fa a, show (8 : Int32) = nI 8 from rfl, pk_mul]
  refine And.intro (pk_in a 5 ha) (nm_r e1 ⟨pk_in a 5 ha, nm_r (lj_fa a) ⟨pk_in a 5 ha, nm_r (lj_fa a) ?_⟩⟩)
  refine pk_eq (F a) d (fun c => pk_eq (S a) d (fun c2 => ?_) (fun c2 => ?_)) (fun c => ?_)
  · refine lj_diag hw.2.1 (by omega) hx (fun z hz => H z (lj_L_congr (fun y _ => ?_) hz))
    unfold lj_al
    rw [if_pos c, if_pos c2]
  · exact lj_al47 hw hd hx ht hh (fun q => c2 q.2) H
  · exact lj_al47 hw hd hx ht hh (fun q => c q.1) H
theorem lj_or01 : ∀ v, v < 2 → nI v ||| 0 = nI v ∧ nI v ||| 1 = nI 1 := by decide +kernel
/-- one round of the atoms -/
theorem lj_leap36 {J : Int32 → Int32 → Int32 → Int32 → Prop} {d l k y0 an0 : Nat} {t : Nat → Nat} (hw : lj_wf m O B R F S) (hd : d < 4) (ht : ∀ e, e < d → t e < 8 ∧ a6 e = nI (t e)) (hy0 : y0 < 8) (ha0 : an0 ≤ 1)
    (H : ∀ an y mv, y0 ≤ y → y ≤ 8 → (∀ z, y0 ≤ z → z < y → ¬ lj_all m O B R F S d t z) → mv ≤ 1 → (mv = 1 → y0 < y) → (mv = 0 → y = y0 ∧ lj_all m O B R F S d t y0) → an ≤ 1 → (an = 1 → an0 = 1 ∨ lj_h m F S d) → (an = 0 → ¬ lj_h m F S d) → J (nI an) (nI y) (nI mv) (nI (k + 1))) :
    ∃ fu, wX_leap_36 post J (nI d) (nI l) (nI k) (nI m) (lj_f O) (lj_f B) (lj_f R) (lj_f F) (lj_f S) a6 a7 fu (nI an0) (nI y0) 0 0 := by
  obtain ⟨w1, w2, w3, w4, w5, w6, w7⟩ := id hw
  refine loop_m (fun n (s : Nat × Nat × Nat × Nat) => wX_leap_36 post J (nI d) (nI l) (nI k) (nI m) (lj_f O) (lj_f B) (lj_f R) (lj_f F) (lj_f S) a6 a7 n (nI s.1) (nI s.2.1) (nI s.2.2.1) (nI s.2.2.2))
    (fun s => s.2.2.2 ≤ m ∧ y0 ≤ s.2.1 ∧ s.2.1 ≤ 8 ∧ (∀ z, y0 ≤ z → z < s.2.1 → ¬ lj_all m O B R F S d t z) ∧ s.2.2.1 ≤ 1 ∧ (s.2.2.1 = 1 → y0 < s.2.1) ∧ (s.2.2.1 = 0 → s.2.1 = y0 ∧ ∀ a', a' < s.2.2.2 → (F a' = d ∨ S a' = d) → lj_al O B R F S a' d t y0) ∧ s.1 ≤ 1 ∧ (s.1 = 1 → an0 = 1 ∨ lj_h m F S d) ∧ (s.1 = 0 → s.2.1 = y0 ∧ ∀ a', a' < s.2.2.2 → ¬ (F a' = d ∨ S a' = d)))
    (fun s => m - s.2.2.2) ?_ (an0, y0, 0, 0) (by
      dsimp only
      exact ⟨by omega, Nat.le_refl _, by omega, fun z a b => absurd b (by omega), by decide, fun z => absurd z (by decide), fun _ => ⟨rfl, fun a' z => absurd z (by omega)⟩, ha0, fun z => Or.inl z, fun _ => ⟨rfl, fun a' z => absurd z (by omega)⟩⟩)
  intro n ⟨an, y, mv, a⟩ I hn
  dsimp only at I hn ⊢
  obtain ⟨i1, i2, i3, i4, i5, i6, i7, i8, i9, i10⟩ := I
  have ex : (m ≤ a ∨ 8 ≤ y) → J (nI an) (nI y) (nI mv) (nI (k + 1)) := by
    intro c
    refine H an y mv i2 i3 i4 i5 i6 (fun z => ?_) i8 i9 (fun z q => ?_)
    · obtain ⟨p1, p2⟩ := i7 z
      exact ⟨p1, fun a' h => p2 a' (by omega)⟩
    · obtain ⟨p1, p2⟩ := i10 z
      obtain ⟨a', q1, q2⟩ := q
      exact p2 a' (by omega) q2
  refine pk_le m a (fun c => nm_r (nI_1 k) (ex (Or.inl c))) (fun c => pk_le 8 y (fun c2 => nm_r (nI_1 k) (ex (Or.inr c2))) (fun c2 => ?_))
  refine lj_has (by omega) hd (w5 a) (w6 a) (fun hh => br_t rfl (nm_r (nI_1 a) (hn (an, y, mv, a + 1) ?_ (by dsimp only; omega)))) (fun hh => br_f (by decide) (lj_alF hw (by omega) hd i3 ht hh (fun z hz => ?_)))
  · dsimp only
    refine ⟨by omega, i2, i3, i4, i5, i6, fun q => ⟨(i7 q).1, fun a' h h' => ?_⟩, i8, i9, fun q => ⟨(i10 q).1, fun a' h h' => ?_⟩⟩
    · by_cases e : a' = a
      · rw [e] at h'
        exact absurd h' hh
      · exact (i7 q).2 a' (by omega) h'
    · by_cases e : a' = a
      · rw [e] at h'
        exact hh h'
      · exact (i10 q).2 a' (by omega) h'
  · obtain ⟨z1, z2, z3, z4⟩ := hz
    have hA : lj_h m F S d := ⟨a, c, hh⟩
    have no : ∀ u, y0 ≤ u → u < z → ¬ lj_all m O B R F S d t u := by
      intro u u1 u2 u3
      by_cases e : u < y
      · exact i4 u u1 e u3
      · exact z4 u (by omega) u2 (u3 a c hh)
    refine pk_le z y (fun c3 => nm_r (lj_or01 mv (by omega)).1 (nm_r (nI_1 a) (hn (1, z, mv, a + 1) ?_ (by dsimp only; omega)))) (fun c3 => nm_r (lj_or01 mv (by omega)).2 (nm_r (nI_1 a) (hn (1, z, 1, a + 1) ?_ (by dsimp only; omega))))
    · dsimp only
      have e : z = y := by omega
      subst e
      refine ⟨by omega, i2, i3, i4, i5, i6, fun q => ⟨(i7 q).1, fun a' h h' => ?_⟩, by omega, fun _ => Or.inr hA, fun q => absurd q (by omega)⟩
      by_cases e : a' = a
      · rw [e]
        have ee := (i7 q).1
        rw [← ee]
        exact z3 c2
      · exact (i7 q).2 a' (by omega) h'
    · dsimp only
      exact ⟨by omega, by omega, z2, no, by omega, fun _ => by omega, fun q => absurd q (by omega), by omega, fun _ => Or.inr hA, fun q => absurd q (by omega)⟩
theorem lj_leap {d l : Nat} {t : Nat → Nat} (hw : lj_wf m O B R F S) (hd : d < 4) (hl : l ≤ 8) (ht : ∀ e, e < d → t e < 8 ∧ a6 e = nI (t e)) (H : ∀ z, lj_L 8 (lj_ok m O B R F S d t) l z → post (nI z)) : wpX_leap post (lj_u m O B R F S a6 a7) (nI d) (nI l) := by
  refine loop_m (fun n (s : Nat × Nat × Nat × Nat) => wX_leap_11 post (nI d) (nI l) (nI m) (lj_f O) (lj_f B) (lj_f R) (lj_f F) (lj_f S) a6 a7 n (nI s.1) (nI s.2.1) (nI s.2.2.1) (nI s.2.2.2))
    (fun s => s.2.1 ≤ 8 ∧ l ≤ s.2.1 ∧ (∀ z, l ≤ z → z < s.2.1 → ¬ lj_all m O B R F S d t z) ∧ s.2.2.1 ≤ 1 ∧ (s.2.2.1 = 1 → s.2.2.2 ≤ s.2.1) ∧ (s.2.2.1 = 0 → s.2.1 < 8 → lj_all m O B R F S d t s.2.1) ∧ s.1 ≤ 1 ∧ (s.1 = 1 → lj_h m F S d) ∧ (s.2.2.2 = 0 → s.2.2.1 = 1 ∧ s.2.1 = l) ∧ (0 < s.2.2.2 → s.1 = 0 → ¬ lj_h m F S d) ∧ s.2.2.2 ≤ 9)
    (fun s => 9 - s.2.2.2) ?_ (0, l, 1, 0) (by
      dsimp only
      exact ⟨hl, Nat.le_refl l, fun z a b => absurd b (by omega), by decide, fun _ => Nat.zero_le _, fun z => absurd z (by decide), by decide, fun z => absurd z (by decide), fun _ => ⟨rfl, rfl⟩, fun z => absurd z (by decide), by decide⟩)
  intro n ⟨an, y, mv, k⟩ I hn
  dsimp only at I hn ⊢
  obtain ⟨i1, i2, i3, i4, i5, i6, i7, i8, i9, i10, i11⟩ := I
  have ex : (8 < k ∨ mv = 0 ∨ 8 ≤ y) → wX_leap_108 post (nI l) (nI an) (nI y) (nI m) (lj_f O) (lj_f B) (lj_f R) (lj_f F) (lj_f S) a6 a7 := by
    intro c
    have key : y < 8 → lj_all m O B R F S d t y := by
      intro q
      by_cases e : mv = 0
      · exact i6 e q
      · have := i5 (by omega)
        omega
    have noh : an = 0 → l < 8 → ¬ lj_h m F S d := by
      intro q1 q2
      rcases Nat.eq_zero_or_pos k with e | e
      · have := i9 e
        omega
      · exact i10 e q1
    refine pk_eq an 0 (fun c1 => pk_eq l 0 (fun c2 => ?_) (fun c2 => ?_)) (fun c1 => ?_)
    · have nh := noh c1 (by omega)
      have va : ∀ z, lj_all m O B R F S d t z := fun z a ha hh => absurd ⟨a, ha, hh⟩ nh
      have ye : y = 0 := by
        rcases Nat.eq_zero_or_pos y with e | e
        · exact e
        · exact absurd (va 0) (i3 0 (by omega) e)
      subst ye
      exact H 0 ⟨i2, i1, fun _ => ⟨va 0, Or.inr rfl⟩, fun z a b => absurd b (by omega)⟩
    · refine H 8 ⟨hl, Nat.le_refl 8, fun q => absurd q (by omega), fun z a b q => ?_⟩
      rcases q.2 with e | e
      · exact noh c1 (by omega) e
      · omega
    · exact H y ⟨i2, i1, fun q => ⟨key q, Or.inl (i8 (by omega))⟩, fun z a b q => i3 z a b q.1⟩
  refine pk_lt 8 k (fun c => ex (Or.inl c)) (fun c => pk_eq mv 0 (fun c1 => ex (Or.inr (Or.inl c1))) (fun c1 => pk_le 8 y (fun c2 => ex (Or.inr (Or.inr c2))) (fun c2 => ?_)))
  refine lj_leap36 hw hd ht c2 i7 (fun an' y' mv' j1 j2 j3 j4 j5 j6 j7 j8 j9 => hn (an', y', mv', k + 1) ?_ (by dsimp only; omega))
  dsimp only
  have := i5 (by omega)
  refine ⟨j2, by omega, fun z a b => ?_, j4, fun q => ?_, fun q q2 => ?_, j7, fun q => ?_, fun q => absurd q (by omega), fun _ => j9, by omega⟩
  · by_cases e : z < y
    · exact i3 z a e
    · exact j3 z (by omega) b
  · have := j5 q
    omega
  · rw [(j6 q).1]
    exact (j6 q).2
  · exact (j8 q).elim i8 id
end
end
section
section
variable {m : Nat} {O B R F S : Nat → Nat} {a6 a7 : Nat → Int32}
theorem lj_tight {post : Int32 → Prop} {low d : Nat} {t : Nat → Nat} (hlow : low < 4096) (hd : d < 4) (ht : ∀ e, e < d + 1 → t e < 8 ∧ a6 e = nI (t e)) (h0 : ¬ (∀ e, e < d + 1 → t e = lj_dg low e) → post 0) (h1 : (∀ e, e < d + 1 → t e = lj_dg low e) → post 1) :
    wpX_tightUpTo post (lj_u m O B R F S a6 a7) (nI low) (nI d) := by
  refine loop_m (fun n i => wX_tightUpTo_2 post (nI low) (nI d) (nI m) (lj_f O) (lj_f B) (lj_f R) (lj_f F) (lj_f S) a6 a7 n (nI i)) (fun i => i ≤ d + 1 ∧ ∀ e, e < i → t e = lj_dg low e) (fun i => d + 1 - i) ?_ 0 ⟨Nat.zero_le _, fun e he => absurd he (by omega)⟩
  intro n i ⟨i1, i2⟩ hn
  refine pk_lt d i (fun c => h1 (fun e he => i2 e (by omega))) (fun c => ⟨pk_in i 4 (by omega), lj_digit (by omega) (by omega) ?_⟩)
  obtain ⟨t1, t2⟩ := ht i (by omega)
  have g := lj_dg_lt low i
  refine pk_eq (t i) (lj_dg low i) (fun c2 => nm_r (nI_1 i) (hn (i + 1) ⟨by omega, fun e he => ?_⟩ (by omega))) (fun c2 => h0 (fun q => c2 (q i (by omega)))) (by rw [nI_clamp (by omega), t2])
  by_cases k : e = i
  · rw [k]; exact c2
  · exact i2 e (by omega)
theorem lj_code {post : Int32 → Prop} {t : Nat → Nat} (ht : ∀ e, e < 4 → a6 e = nI (t e)) (H : post (nI (lj_pre t 4))) : wpX_code post (lj_u m O B R F S a6 a7) := by
  show post ((((a6 3) + (8 * (a6 2))) + (64 * (a6 1))) + (512 * (a6 0)))
  rw [ht 0 (by omega), ht 1 (by omega), ht 2 (by omega), ht 3 (by omega), show (8 : Int32) = nI 8 from rfl, show (64 : Int32) = nI 64 from rfl, show (512 : Int32) = nI 512 from rfl, pk_mul, pk_mul, pk_mul, nI_add, nI_add, nI_add, ← lj_pre_4 t]
  exact H
theorem lj_nf36 {post : Int32 → St1 → Prop} {low : Nat} (hw : lj_wf m O B R F S) (hlow : low < 4096)
    (H : ∀ z, lj_L 4096 (lj_A (lj_ok m O B R F S)) low z → ∀ b6 b7, post (lj_r z) (lj_u m O B R F S b6 b7)) (h7 : a7 0 = nI (lj_dg low 0)) :
    ∃ fu, wX_nextFrom_36 post (nI low) (nI m) fu 0 0 (lj_f O) (lj_f B) (lj_f R) (lj_f F) (lj_f S) a6 a7 := by
  have hc := lj_ok_cg m O B R F S
  refine loop_m (fun n (s : Nat × Nat × (Nat → Nat) × Nat × (Nat → Int32) × (Nat → Int32)) => wX_nextFrom_36 post (nI low) (nI m) n (nI s.1) (nI s.2.1) (lj_f O) (lj_f B) (lj_f R) (lj_f F) (lj_f S) s.2.2.2.2.1 s.2.2.2.2.2)
    (fun s => lj_I (lj_ok m O B R F S) low s.1 s.2.2.1 s.2.2.2.1 ∧ (∀ e, e < s.1 → s.2.2.2.2.1 e = nI (s.2.2.1 e)) ∧ s.2.2.2.2.2 s.1 = nI s.2.2.2.1 ∧ s.2.1 + lj_mu s.1 s.2.2.1 s.2.2.2.1 ≤ 5265)
    (fun s => 5265 - s.2.1) ?_ (0, 0, (fun _ => 0), lj_dg low 0, a6, a7) ⟨lj_I_0 hlow _, fun e he => absurd he (by dsimp only; omega), h7, by have := lj_mu_0 (fun _ => 0) (lj_dg low 0); dsimp only; omega⟩
  intro n ⟨d, k, t, l, b6, b7⟩ I hn
  dsimp only at I hn ⊢
  obtain ⟨i1, i2, i3, i4⟩ := I
  have mp := lj_mu_pos d t l
  obtain ⟨d4, l8, hd, _⟩ := id i1
  refine pk_le 16384 k (fun c => absurd c (by omega)) (fun c => ⟨pk_in d 4 d4, ?_⟩)
  rw [nI_clamp (show d < 2 ^ 31 by omega), i3]
  refine lj_leap hw d4 l8 (fun e he => ⟨(hd e he).1, i2 e he⟩) (fun x hx => ?_)
  obtain ⟨x1, x2, _, _⟩ := id hx
  refine pk_le 8 x (fun z => ?_) (fun z => ⟨pk_in d 4 d4, ?_⟩)
  · have e8 : x = 8 := by omega
    subst e8
    match d, d4, i1, i2, i3, i4, hx, hd, hn with
    | 0, _, i1, i2, i3, i4, hx, hd, hn =>
      refine nm_r (show nI 0 + (-1) = -1 from rfl) (br_f (by decide) ?_)
      have r := H 4096 (lj_back_end hc hlow i1 hx) b6 b7
      rw [lj_r_f (by omega)] at r
      exact r
    | e + 1, d4, i1, i2, i3, i4, hx, hd, hn =>
      have te := (hd e (by omega)).1
      have ee : upd b7 (nI e).toNatClampNeg ((b6 (nI e).toNatClampNeg + 1).toInt8.toInt32) = upd b7 e (nI (t e + 1)) := by
        rw [nI_clamp (by omega), i2 e (by omega), nI_1, lj_i8 _ (by omega)]
      have mb : lj_mu e t (t e + 1) < lj_mu (e + 1) t l := lj_mu_back
      refine nm_r (pk_m1 e) (br_t (nI_pos' (by omega)) ⟨pk_in e 4 (by omega), pk_in e 4 (by omega), nm_r ee (nm_r (nI_1 k) (hn (e, k + 1, t, t e + 1, b6, upd b7 e (nI (t e + 1))) ?_ (by dsimp only; omega)))⟩)
      exact ⟨lj_back_go hc hlow i1 hx, fun f hf => i2 f (Nat.lt_succ_of_lt hf), pk_us, by dsimp only; omega⟩
  · have e6 : upd b6 d ((nI x).toInt8.toInt32) = upd b6 d (nI x) := by rw [lj_i8 _ (by omega)]
    refine nm_r e6 ?_
    have ht' : ∀ e, e < d + 1 → lj_up t d x e < 8 ∧ upd b6 d (nI x) e = nI (lj_up t d x e) := by
      intro e he
      by_cases q : e = d
      · rw [q, lj_up_s, pk_us]
        exact ⟨z, rfl⟩
      · rw [lj_up_n q, pk_un q]
        exact ⟨(hd e (by omega)).1, i2 e (by omega)⟩
    have co : d + 1 = 4 → wpX_code (fun r_29 => (post r_29 (nI m, lj_f O, lj_f B, lj_f R, lj_f F, lj_f S, upd b6 d (nI x), b7))) (lj_u m O B R F S (upd b6 d (nI x)) b7) := by
      intro q
      have e3 : d = 3 := by omega
      subst e3
      refine lj_code (fun e he => (ht' e he).2) ?_
      have r := H _ (lj_down_end hc hlow i1 hx z) (upd b6 3 (nI x)) b7
      rw [lj_r_t (lj_pre_lt (fun e he => (ht' e he).1))] at r
      exact r
    have go : ∀ l', d + 1 ≠ 4 → (((∀ e, e < d + 1 → lj_up t d x e = lj_dg low e) ∧ l' = lj_dg low (d + 1)) ∨ (¬ (∀ e, e < d + 1 → lj_up t d x e = lj_dg low e) ∧ l' = 0)) → wX_nextFrom_36 post (nI low) (nI m) n (nI (d + 1)) (nI (k + 1)) (lj_f O) (lj_f B) (lj_f R) (lj_f F) (lj_f S) (upd b6 d (nI x)) (upd b7 (d + 1) (nI l')) := by
      intro l' q hl'
      have mb : lj_mu (d + 1) (lj_up t d x) l' < lj_mu d t l := lj_mu_down (by omega) x1 z
      refine hn (d + 1, k + 1, lj_up t d x, l', upd b6 d (nI x), upd b7 (d + 1) (nI l')) ?_ (by dsimp only; omega)
      exact ⟨lj_down_go hc hlow i1 hx z (by omega) hl', fun e he => (ht' e he).2, pk_us, by dsimp only; omega⟩
    refine lj_tight hlow d4 ht' (fun tt => nm_r (nI_1 d) (pk_eq (d + 1) 4 co (fun q => br_t rfl ⟨pk_in (d + 1) 4 (by omega), nm_r ?_ (nm_r (nI_1 k) (go 0 q (Or.inr ⟨tt, rfl⟩)))⟩))) (fun tt => nm_r (nI_1 d) (pk_eq (d + 1) 4 co (fun q => br_f (by decide) (lj_digit (by omega) (by omega) ⟨pk_in (d + 1) 4 (by omega), nm_r ?_ (nm_r (nI_1 k) (go (lj_dg low (d + 1)) q (Or.inl ⟨tt, rfl⟩)))⟩))))
    · rw [nI_clamp (by omega)]
      rfl
    · have g := lj_dg_lt low (d + 1)
      rw [nI_clamp (by omega), lj_i8 _ (by omega)]
theorem lj_nf18 {post : Int32 → St1 → Prop} {low : Nat} (hw : lj_wf m O B R F S) (hlow : low < 4096)
    (H : ∀ z, lj_L 4096 (lj_A (lj_ok m O B R F S)) low z → ∀ b6 b7, post (lj_r z) (lj_u m O B R F S b6 b7)) :
    wX_nextFrom_18 post (nI low) (nI m) (lj_f O) (lj_f B) (lj_f R) (lj_f F) (lj_f S) a6 a7 := by
  have g := lj_dg_lt low 0
  have e : upd a7 0 ((nI (lj_dg low 0)).toInt8.toInt32) = upd a7 0 (nI (lj_dg low 0)) := by rw [lj_i8 _ (by omega)]
  exact lj_digit (e := 0) (by omega) (by omega) (nm_r e (lj_nf36 hw hlow H pk_us))
theorem lj_nf {post : Int32 → St1 → Prop} {k : Nat} (hw : lj_wf m O B R F S) (hk : k ≤ 4096)
    (H : ∀ z, lj_L 4096 (lj_A (lj_ok m O B R F S)) k z → ∀ b6 b7, post (lj_r z) (lj_u m O B R F S b6 b7)) :
    wpX_nextFrom post (lj_u m O B R F S a6 a7) (nI k) := by
  refine pk_lt k 4096 (fun c => br_t (nI_pos' (by omega)) (lj_nf18 hw c H)) (fun c => ?_)
  have e : k = 4096 := by omega
  subst e
  have r := H 4096 ⟨Nat.le_refl _, Nat.le_refl _, fun z => absurd z (by omega), fun y a b => absurd b (by omega)⟩ a6 a7
  rw [lj_r_f (by omega)] at r
  exact r
theorem lj_nfN {post : Int32 → St1 → Prop} {x : Int32} (hw : lj_wf m O B R F S) (hx : x < 0)
    (H : ∀ z, lj_L 4096 (lj_A (lj_ok m O B R F S)) 0 z → ∀ b6 b7, post (lj_r z) (lj_u m O B R F S b6 b7)) :
    wpX_nextFrom post (lj_u m O B R F S a6 a7) x := by
  rw [Int32.lt_iff_toInt_lt] at hx
  have h0 : (0 : Int32).toInt = 0 := by decide
  have h4 : (4096 : Int32).toInt = 4096 := by decide
  refine br_t (by rw [Int32.lt_iff_toInt_lt]; omega) (br_f (by rw [Int32.le_iff_toInt_le]; omega) (lj_nf18 (low := 0) hw (by omega) H))
theorem lj_nfB {post : Int32 → St1 → Prop} {x : Int32} (hx : nI 4096 ≤ x) (H : post (-1) (lj_u m O B R F S a6 a7)) :
    wpX_nextFrom post (lj_u m O B R F S a6 a7) x := by
  rw [Int32.le_iff_toInt_le, nI_toInt (by omega)] at hx
  have h4 : (4096 : Int32).toInt = 4096 := by decide
  exact br_f (by rw [Int32.lt_iff_toInt_lt]; omega) H
end
end
section
/-- the answers of a picture -/
abbrev lj_P (m : Nat) (O B R F S : Nat → Nat) : Nat → Prop := lj_A (lj_ok m O B R F S)
section
variable {m : Nat} {O B R F S : Nat → Nat} {a6 a7 : Nat → Int32}
theorem lj_isV {post : Int32 → Prop} {v : Nat} (hv : v < 4) (H : post 1) : wpX_isVariable post () (nI v) := br_f (nI_pos (by omega)) (br_f (nI_ge (b := 4) hv (by omega)) H)
theorem lj_isR {post : Int32 → Prop} {v : Nat} (hv : v < 3) (H : post 1) : wpX_isRelation post () (nI v) := br_f (nI_pos (by omega)) (br_f (nI_ge (b := 3) hv (by omega)) H)
theorem lj_isT {post : Int32 → Prop} {v : Nat} (hv : v < 8) (H : post 1) : wpX_isThing post () (nI v) := br_f (nI_pos (by omega)) (br_f (nI_ge (b := 8) hv (by omega)) H)
theorem lj_count {post : Int32 → St1 → Prop} (hw : lj_wf m O B R F S) (H : ∀ b6 b7, post (nI (lj_ct (lj_P m O B R F S) 4096)) (lj_u m O B R F S b6 b7)) : wpX_count post (lj_u m O B R F S a6 a7) := by
  unfold wpX_count
  refine lj_nf (k := 0) hw (by omega) (fun z0 hz0 b6 b7 => ?_)
  have main : ∃ fu, wX_count_10 post fu (nI (lj_ct (lj_P m O B R F S) z0)) (lj_r z0) (nI (lj_ct (lj_P m O B R F S) z0)) (nI m) (lj_f O) (lj_f B) (lj_f R) (lj_f F) (lj_f S) b6 b7 := by
    refine loop_m (fun n (s : Nat × (Nat → Int32) × (Nat → Int32)) => wX_count_10 post n (nI (lj_ct (lj_P m O B R F S) s.1)) (lj_r s.1) (nI (lj_ct (lj_P m O B R F S) s.1)) (nI m) (lj_f O) (lj_f B) (lj_f R) (lj_f F) (lj_f S) s.2.1 s.2.2)
      (fun s => s.1 ≤ 4096 ∧ (s.1 < 4096 → lj_P m O B R F S s.1)) (fun s => 4096 - s.1) ?_ (z0, b6, b7) ⟨hz0.2.1, hz0.2.2.1⟩
    intro n ⟨z, b6, b7⟩ I hn
    dsimp only at I hn ⊢
    obtain ⟨i1, i2⟩ := I
    have cl := lj_ct_le (lj_P m O B R F S) z
    by_cases hz : z < 4096
    · rw [lj_r_t hz]
      refine pk_le 4096 (lj_ct (lj_P m O B R F S) z) (fun c => absurd c (by omega)) (fun c => br_f (nI_pos (by omega)) (nm_r (nI_1 _) ?_))
      rw [nI_1 z]
      refine lj_nf hw (by omega) (fun z' hz' c6 c7 => nm_r (nI_1 _) ?_)
      have r := hn (z', c6, c7) ⟨hz'.2.1, hz'.2.2.1⟩ (by have := hz'.1; dsimp only; omega)
      dsimp only at r
      rw [lj_ct_next (i2 hz) hz'] at r
      exact r
    · have e : z = 4096 := by omega
      subst e
      rw [lj_r_f hz]
      exact br_c (fun _ => H b6 b7) (fun _ => br_t (by decide) (H b6 b7))
  rw [lj_ct_first hz0] at main
  exact main
theorem lj_values {post : Int32 → St1 → Prop} {v : Nat} (hw : lj_wf m O B R F S) (hv : v < 4) (H : ∀ b6 b7, post (nI (lj_vs (lj_P m O B R F S) v 4096)) (lj_u m O B R F S b6 b7)) : wpX_values post (lj_u m O B R F S a6 a7) (nI v) := by
  unfold wpX_values
  refine lj_isV hv (br_f (by decide) (lj_nf (k := 0) hw (by omega) (fun z0 hz0 b6 b7 => ?_)))
  have main : ∃ fu, wX_values_22 post (nI v) fu (nI (lj_vs (lj_P m O B R F S) v z0)) (lj_r z0) (nI (lj_ct (lj_P m O B R F S) z0)) (nI m) (lj_f O) (lj_f B) (lj_f R) (lj_f F) (lj_f S) b6 b7 := by
    refine loop_m (fun n (s : Nat × (Nat → Int32) × (Nat → Int32)) => wX_values_22 post (nI v) n (nI (lj_vs (lj_P m O B R F S) v s.1)) (lj_r s.1) (nI (lj_ct (lj_P m O B R F S) s.1)) (nI m) (lj_f O) (lj_f B) (lj_f R) (lj_f F) (lj_f S) s.2.1 s.2.2)
      (fun s => s.1 ≤ 4096 ∧ (s.1 < 4096 → lj_P m O B R F S s.1)) (fun s => 4096 - s.1) ?_ (z0, b6, b7) ⟨hz0.2.1, hz0.2.2.1⟩
    intro n ⟨z, b6, b7⟩ I hn
    dsimp only at I hn ⊢
    obtain ⟨i1, i2⟩ := I
    have cl := lj_ct_le (lj_P m O B R F S) z
    by_cases hz : z < 4096
    · rw [lj_r_t hz]
      refine pk_le 4096 (lj_ct (lj_P m O B R F S) z) (fun c => absurd c (by omega)) (fun c => br_f (nI_pos (by omega)) (lj_digit (by omega) hv (nm_r (lj_or1 _ (lj_vs_lt _ v z) _ (lj_dg_lt z v)) ?_)))
      rw [nI_1 z]
      refine lj_nf hw (by omega) (fun z' hz' c6 c7 => nm_r (nI_1 _) ?_)
      have r := hn (z', c6, c7) ⟨hz'.2.1, hz'.2.2.1⟩ (by have := hz'.1; dsimp only; omega)
      dsimp only at r
      have e2 : lj_vs (lj_P m O B R F S) v z' = lj_vs (lj_P m O B R F S) v z ||| 2 ^ lj_dg z v := lj_fd_next (i2 hz) hz'
      rw [lj_ct_next (i2 hz) hz', e2] at r
      exact r
    · have e : z = 4096 := by omega
      subst e
      rw [lj_r_f hz]
      exact br_c (fun _ => H b6 b7) (fun _ => br_t (by decide) (H b6 b7))
  have e2 : lj_vs (lj_P m O B R F S) v z0 = 0 := lj_fd_first hz0
  rw [lj_ct_first hz0, e2] at main
  exact main
theorem lj_countWith {post : Int32 → St1 → Prop} {v x : Nat} (hw : lj_wf m O B R F S) (hv : v < 4) (hx : x < 8) (H : ∀ b6 b7, post (nI (lj_cw (lj_P m O B R F S) v x 4096)) (lj_u m O B R F S b6 b7)) : wpX_countWith post (lj_u m O B R F S a6 a7) (nI v) (nI x) := by
  unfold wpX_countWith
  refine lj_isV hv (br_f (by decide) (lj_nf (k := 0) hw (by omega) (fun z0 hz0 b6 b7 => ?_)))
  have main : ∃ fu, wX_countWith_23 post (nI v) (nI x) fu (nI (lj_cw (lj_P m O B R F S) v x z0)) (lj_r z0) (nI (lj_ct (lj_P m O B R F S) z0)) (nI m) (lj_f O) (lj_f B) (lj_f R) (lj_f F) (lj_f S) b6 b7 := by
    refine loop_m (fun n (s : Nat × (Nat → Int32) × (Nat → Int32)) => wX_countWith_23 post (nI v) (nI x) n (nI (lj_cw (lj_P m O B R F S) v x s.1)) (lj_r s.1) (nI (lj_ct (lj_P m O B R F S) s.1)) (nI m) (lj_f O) (lj_f B) (lj_f R) (lj_f F) (lj_f S) s.2.1 s.2.2)
      (fun s => s.1 ≤ 4096 ∧ (s.1 < 4096 → lj_P m O B R F S s.1)) (fun s => 4096 - s.1) ?_ (z0, b6, b7) ⟨hz0.2.1, hz0.2.2.1⟩
    intro n ⟨z, b6, b7⟩ I hn
    dsimp only at I hn ⊢
    obtain ⟨i1, i2⟩ := I
    have cl := lj_ct_le (lj_P m O B R F S) z
    by_cases hz : z < 4096
    · have g := lj_dg_lt z v
      have go : ∀ w : Nat, (if lj_dg z v = x then 1 else 0) = w → wX_countWith_52 post (wX_countWith_23 post (nI v) (nI x) n) (nI v) (nI x) (nI z) (nI (lj_ct (lj_P m O B R F S) z)) (nI w) (nI (lj_cw (lj_P m O B R F S) v x z)) (nI m) (lj_f O) (lj_f B) (lj_f R) (lj_f F) (lj_f S) b6 b7 := by
        intro w hw'
        unfold wX_countWith_52
        refine nm_r (nI_add _ _) ?_
        rw [nI_1 z]
        refine lj_nf hw (by omega) (fun z' hz' c6 c7 => nm_r (nI_1 _) ?_)
        have r := hn (z', c6, c7) ⟨hz'.2.1, hz'.2.2.1⟩ (by have := hz'.1; dsimp only; omega)
        dsimp only at r
        have e2 : lj_cw (lj_P m O B R F S) v x z' = lj_cw (lj_P m O B R F S) v x z + (if lj_dg z v = x then 1 else 0) := lj_fd_next (i2 hz) hz'
        rw [lj_ct_next (i2 hz) hz', e2, hw'] at r
        exact r
      rw [lj_r_t hz]
      exact pk_le 4096 (lj_ct (lj_P m O B R F S) z) (fun c => absurd c (by omega)) (fun c => br_f (nI_pos (by omega)) (lj_digit (by omega) hv (pk_eq (lj_dg z v) x (fun c => go 1 (if_pos c)) (fun c => go 0 (if_neg c)))))
    · have e : z = 4096 := by omega
      subst e
      rw [lj_r_f hz]
      exact br_c (fun _ => H b6 b7) (fun _ => br_t (by decide) (H b6 b7))
  have e2 : lj_cw (lj_P m O B R F S) v x z0 = 0 := lj_fd_first hz0
  rw [lj_ct_first hz0, e2] at main
  exact main
theorem lj_pairs90 {post : Int32 → St1 → Prop} {s : Nat} (hs : s < 2 ^ 64) (H : post (nI (lj_pc s 64)) (lj_u m O B R F S a6 a7)) : ∃ fu, wX_pairs_90 post (lN s) (nI m) (lj_f O) (lj_f B) (lj_f R) (lj_f F) (lj_f S) a6 a7 fu 0 0 := by
  refine pk_loop (σ := Unit) (fun n i _ => wX_pairs_90 post (lN s) (nI m) (lj_f O) (lj_f B) (lj_f R) (lj_f F) (lj_f S) a6 a7 n (nI (lj_pc s i)) (nI i)) (fun _ _ => True) 64 0 () (by omega) trivial (fun n _ _ => pk_le 64 64 (fun _ => H) (fun z => absurd z (by omega))) (fun n i _ hi _ hn => pk_le 64 i (fun z => absurd z (by omega)) (fun _ => nm_r ?_ (nm_r (nI_1 i) (hn () trivial))))
  rw [lj_bitl hs hi, nI_add, lj_pc_s]
theorem lj_pairs {post : Int32 → St1 → Prop} {v w : Nat} (hw : lj_wf m O B R F S) (hv : v < 4) (hv' : w < 4) (H : ∀ b6 b7, post (nI (lj_pc (lj_ps (lj_P m O B R F S) v w 4096) 64)) (lj_u m O B R F S b6 b7)) : wpX_pairs post (lj_u m O B R F S a6 a7) (nI v) (nI w) := by
  unfold wpX_pairs
  refine lj_isV hv (br_f (by decide) (lj_isV hv' (br_f (by decide) (lj_nf (k := 0) hw (by omega) (fun z0 hz0 b6 b7 => ?_)))))
  have main : ∃ fu, wX_pairs_30 post (nI v) (nI w) fu (lN (lj_ps (lj_P m O B R F S) v w z0)) (lj_r z0) (nI (lj_ct (lj_P m O B R F S) z0)) (nI m) (lj_f O) (lj_f B) (lj_f R) (lj_f F) (lj_f S) b6 b7 := by
    refine loop_m (fun n (s : Nat × (Nat → Int32) × (Nat → Int32)) => wX_pairs_30 post (nI v) (nI w) n (lN (lj_ps (lj_P m O B R F S) v w s.1)) (lj_r s.1) (nI (lj_ct (lj_P m O B R F S) s.1)) (nI m) (lj_f O) (lj_f B) (lj_f R) (lj_f F) (lj_f S) s.2.1 s.2.2)
      (fun s => s.1 ≤ 4096 ∧ (s.1 < 4096 → lj_P m O B R F S s.1)) (fun s => 4096 - s.1) ?_ (z0, b6, b7) ⟨hz0.2.1, hz0.2.2.1⟩
    intro n ⟨z, b6, b7⟩ I hn
    dsimp only at I hn ⊢
    obtain ⟨i1, i2⟩ := I
    have cl := lj_ct_le (lj_P m O B R F S) z
    by_cases hz : z < 4096
    · have g1 := lj_dg_lt z v
      have g2 := lj_dg_lt z w
      have e8 : 8 * nI (lj_dg z v) + nI (lj_dg z w) = nI (8 * lj_dg z v + lj_dg z w) := by rw [show (8 : Int32) = nI 8 from rfl, pk_mul, nI_add]
      rw [lj_r_t hz]
      refine pk_le 4096 (lj_ct (lj_P m O B R F S) z) (fun c => absurd c (by omega)) (fun c => br_f (nI_pos (by omega)) (lj_digit (by omega) hv (lj_digit (by omega) hv' (nm_r e8 (nm_r (lj_orl (lj_ps_lt _ v w z) (by omega)) ?_)))))
      rw [nI_1 z]
      refine lj_nf hw (by omega) (fun z' hz' c6 c7 => nm_r (nI_1 _) ?_)
      have r := hn (z', c6, c7) ⟨hz'.2.1, hz'.2.2.1⟩ (by have := hz'.1; dsimp only; omega)
      dsimp only at r
      have e2 : lj_ps (lj_P m O B R F S) v w z' = lj_ps (lj_P m O B R F S) v w z ||| 2 ^ (8 * lj_dg z v + lj_dg z w) := lj_fd_next (i2 hz) hz'
      rw [lj_ct_next (i2 hz) hz', e2] at r
      exact r
    · have e : z = 4096 := by omega
      subst e
      rw [lj_r_f hz]
      exact br_c (fun _ => lj_pairs90 (lj_ps_lt _ v w _) (H b6 b7)) (fun _ => br_t (by decide) (lj_pairs90 (lj_ps_lt _ v w _) (H b6 b7)))
  have e2 : lj_ps (lj_P m O B R F S) v w z0 = 0 := lj_fd_first hz0
  rw [lj_ct_first hz0, e2] at main
  exact main
theorem lj_answer {post : Int32 → St1 → Prop} {k : Nat} (hw : lj_wf m O B R F S) (hk : k ≤ 4096) (H : ∀ z, z ≤ 4096 → (z < 4096 → lj_P m O B R F S z ∧ lj_ct (lj_P m O B R F S) z = k) → (z = 4096 → lj_ct (lj_P m O B R F S) 4096 ≤ k) → ∀ b6 b7, post (lj_r z) (lj_u m O B R F S b6 b7)) : wpX_answer post (lj_u m O B R F S a6 a7) (nI k) := by
  unfold wpX_answer
  refine br_t (nI_pos' (by omega)) (lj_nf (k := 0) hw (by omega) (fun z0 hz0 b6 b7 => ?_))
  have c0 := lj_ct_first hz0
  refine loop_m (fun n (s : Nat × Nat × (Nat → Int32) × (Nat → Int32)) => wX_answer_16 post (nI k) n (lj_r s.1) (nI s.2.1) (nI m) (lj_f O) (lj_f B) (lj_f R) (lj_f F) (lj_f S) s.2.2.1 s.2.2.2)
    (fun s => s.1 ≤ 4096 ∧ (s.1 < 4096 → lj_P m O B R F S s.1 ∧ lj_ct (lj_P m O B R F S) s.1 = s.2.1) ∧ (s.1 = 4096 → lj_ct (lj_P m O B R F S) 4096 ≤ s.2.1) ∧ s.2.1 ≤ k) (fun s => k - s.2.1) ?_ (z0, 0, b6, b7) ⟨hz0.2.1, fun c => ⟨hz0.2.2.1 c, c0⟩, fun c => by dsimp only at c; rw [← c, c0]; exact Nat.le_refl 0, Nat.zero_le k⟩
  intro n ⟨z, i, b6, b7⟩ I hn
  dsimp only at I hn ⊢
  obtain ⟨i1, i2, i3, i4⟩ := I
  have fin : (i = k ∨ z = 4096) → post (lj_r z) (lj_u m O B R F S b6 b7) := fun c => H z i1 (fun q => ⟨(i2 q).1, by have := (i2 q).2; omega⟩) (fun q => by have := i3 q; omega) b6 b7
  refine pk_le k i (fun c => fin (Or.inl (by omega))) (fun c => ?_)
  by_cases hz : z < 4096
  · rw [lj_r_t hz]
    refine br_f (nI_pos (by omega)) ?_
    rw [nI_1 z]
    refine lj_nf hw (by omega) (fun z' hz' c6 c7 => nm_r (nI_1 _) (hn (z', i + 1, c6, c7) ?_ (by dsimp only; omega)))
    have e := lj_ct_next (i2 hz).1 hz'
    have e2 := (i2 hz).2
    exact ⟨hz'.2.1, fun q => ⟨hz'.2.2.1 q, by dsimp only; omega⟩, fun q => by dsimp only at q ⊢; rw [← q]; omega, by dsimp only; omega⟩
  · have f := fin (Or.inr (by omega))
    rw [lj_r_f hz] at f ⊢
    exact br_t (by decide) f
theorem lj_answerN {post : Int32 → St1 → Prop} (H : post (-1) (lj_u m O B R F S a6 a7)) : wpX_answer post (lj_u m O B R F S a6 a7) (-1) := br_f (by decide) ⟨1, br_t (by decide) H⟩
theorem lj_holds {post : Int32 → St1 → Prop} {z : Nat} (hw : lj_wf m O B R F S) (hz : z < 4096) (hp : lj_P m O B R F S z) (H : ∀ b6 b7, post 1 (lj_u m O B R F S b6 b7)) : wpX_holds post (lj_u m O B R F S a6 a7) (nI z) := by
  unfold wpX_holds
  refine br_f (nI_pos (by omega)) (lj_nf hw (by omega) (fun z' hz' b6 b7 => br_t ?_ (H b6 b7)))
  have e : z' = z := lj_L_uniq hz' ⟨Nat.le_refl z, by omega, fun _ => hp, fun y a b => absurd b (by omega)⟩
  rw [e, lj_r_t hz]
theorem lj_holdsB {post : Int32 → St1 → Prop} (H : post 0 (lj_u m O B R F S a6 a7)) : wpX_holds post (lj_u m O B R F S a6 a7) 4096 := by
  unfold wpX_holds
  exact br_f (by decide) (lj_nfB (by decide) (br_f (by decide) H))
theorem lj_holdsN {post : Int32 → St1 → Prop} (H : post 0 (lj_u m O B R F S a6 a7)) : wpX_holds post (lj_u m O B R F S a6 a7) (-1) := br_t (by decide) H
theorem lj_seek {post : Int32 → St1 → Prop} {k : Nat} (hw : lj_wf m O B R F S) (hk : k ≤ 4096) (H : ∀ z, lj_L 4096 (lj_P m O B R F S) k z → ∀ b6 b7, post (lj_r z) (lj_u m O B R F S b6 b7)) : wpX_seek post (lj_u m O B R F S a6 a7) (nI k) := by
  unfold wpX_seek
  exact lj_nf hw hk (fun z hz b6 b7 => H z hz b6 b7)
theorem lj_seekN {post : Int32 → St1 → Prop} {x : Int32} (hw : lj_wf m O B R F S) (hx : x < 0) (H : ∀ z, lj_L 4096 (lj_P m O B R F S) 0 z → ∀ b6 b7, post (lj_r z) (lj_u m O B R F S b6 b7)) : wpX_seek post (lj_u m O B R F S a6 a7) x := by
  unfold wpX_seek
  exact lj_nfN hw hx (fun z hz b6 b7 => H z hz b6 b7)
theorem lj_seekB {post : Int32 → St1 → Prop} {x : Int32} (hx : nI 4096 ≤ x) (H : post (-1) (lj_u m O B R F S a6 a7)) : wpX_seek post (lj_u m O B R F S a6 a7) x := by
  unfold wpX_seek
  exact lj_nfB hx H
theorem lj_onesX {post : Int32 → Prop} {k : Nat} (hk : k < 256) (H : post (nI (lj_pc k 8))) : wpX_ones post () (nI k) := by
  refine pk_loop (σ := Unit) (fun n i _ => wX_ones_4 post (nI k) n (nI (lj_pc k i)) (nI i)) (fun _ _ => True) 8 0 () (by omega) trivial (fun n _ _ => pk_le 8 8 (fun _ => H) (fun z => absurd z (by omega))) (fun n i _ hi _ hn => pk_le 8 i (fun z => absurd z (by omega)) (fun _ => nm_r ?_ (nm_r (nI_1 i) (hn () trivial))))
  rw [lj_bit (by omega) (by omega), nI_add, lj_pc_s]
theorem lj_onesL {post : Int32 → Prop} {k : Nat} (hk : k < 256) (H : post (nI (lj_pc k 8))) : wpL_ones post () (nI k) := by
  refine pk_loop (σ := Unit) (fun n i _ => wL_ones_4 post (nI k) n (nI (lj_pc k i)) (nI i)) (fun _ _ => True) 8 0 () (by omega) trivial (fun n _ _ => pk_le 8 8 (fun _ => H) (fun z => absurd z (by omega))) (fun n i _ hi _ hn => pk_le 8 i (fun z => absurd z (by omega)) (fun _ => nm_r ?_ (nm_r (nI_1 i) (hn () trivial))))
  rw [lj_bit (by omega) (by omega), nI_add, lj_pc_s]
theorem lj_i8x (r x : Nat) : nI r * 8 + nI x = nI (r * 8 + x) := by rw [show (8 : Int32) = nI 8 from rfl, pk_mul, nI_add]
theorem lj_size {post : Int32 → Prop} {r : Nat} (hw : lj_wf m O B R F S) (hr : r < 3) (H : post (nI (lj_sum (fun x => lj_pc (O (r * 8 + x)) 8) 8))) : wpX_size post (lj_u m O B R F S a6 a7) (nI r) := by
  unfold wpX_size
  refine lj_isR hr (br_f (by decide) ?_)
  refine pk_loop (σ := Unit) (fun n i _ => wX_size_13 post (nI r) (nI m) (lj_f O) (lj_f B) (lj_f R) (lj_f F) (lj_f S) a6 a7 n (nI (lj_sum (fun x => lj_pc (O (r * 8 + x)) 8) i)) (nI i)) (fun _ _ => True) 8 0 () (by omega) trivial (fun n _ _ => pk_le 8 8 (fun _ => H) (fun z => absurd z (by omega))) (fun n i _ hi _ hn => pk_le 8 i (fun z => absurd z (by omega)) (fun _ => ⟨pk_in (r * 8 + i) 24 (by omega) (lj_i8x r i), ?_⟩))
  rw [lj_fa (r * 8 + i) (lj_i8x r i)]
  exact lj_onesX (hw.2.1 _) (nm_r (nI_add _ _) (nm_r (nI_1 i) (hn () trivial)))
theorem lj_partners0 {post : Int32 → Prop} {r x : Nat} (hr : r < 3) (hx : x < 8) (H : post (nI (O (r * 8 + x)))) : wpX_partners post (lj_u m O B R F S a6 a7) (nI r) (nI x) 0 := by
  unfold wpX_partners
  refine lj_isR hr (br_f (by decide) (lj_isT hx (br_f (by decide) (br_f (by decide) (br_t (by decide) (br_t rfl ⟨pk_in (r * 8 + x) 24 (by omega) (lj_i8x r x), ?_⟩))))))
  rw [lj_fa (r * 8 + x) (lj_i8x r x)]
  exact H
theorem lj_partners1 {post : Int32 → Prop} {r x : Nat} (hr : r < 3) (hx : x < 8) (H : post (nI (B (r * 8 + x)))) : wpX_partners post (lj_u m O B R F S a6 a7) (nI r) (nI x) 1 := by
  unfold wpX_partners
  refine lj_isR hr (br_f (by decide) (lj_isT hx (br_f (by decide) (br_f (by decide) (br_t (by decide) (br_f (by decide) ⟨pk_in (r * 8 + x) 24 (by omega) (lj_i8x r x), ?_⟩))))))
  rw [lj_fa (r * 8 + x) (lj_i8x r x)]
  exact H
end
end
section
theorem lj_up_cl {O : Nat → Nat} (hO : ∀ j, O j < 256) {r x y r' x' y' : Nat} (hx : x < 8) (hy : y < 8) (hx' : x' < 8) (hy' : y' < 8) : (lj_up O (r * 8 + x) (lj_cl (O (r * 8 + x)) y) (r' * 8 + x')).testBit y' = ((O (r' * 8 + x')).testBit y' && !(decide (r = r' ∧ x = x' ∧ y = y'))) := by
  by_cases e : r' * 8 + x' = r * 8 + x
  · have e1 : r = r' := by omega
    have e2 : x = x' := by omega
    subst e1 e2
    rw [lj_up_s, lj_cl_bit _ (hO _) y hy y' hy']
    by_cases k : y = y'
    · rw [decide_eq_true k, decide_eq_true ⟨rfl, rfl, k⟩]
    · rw [decide_eq_false k, decide_eq_false (fun q => k q.2.2)]
  · rw [lj_up_n e, decide_eq_false (fun q => e (by rw [q.1, q.2.1]))]
    simp
theorem lj_up_or {O : Nat → Nat} {r x y r' x' y' : Nat} (hx : x < 8) (hx' : x' < 8) : (lj_up O (r * 8 + x) (O (r * 8 + x) ||| 2 ^ y) (r' * 8 + x')).testBit y' = ((O (r' * 8 + x')).testBit y' || decide (r = r' ∧ x = x' ∧ y = y')) := by
  by_cases e : r' * 8 + x' = r * 8 + x
  · have e1 : r = r' := by omega
    have e2 : x = x' := by omega
    subst e1 e2
    rw [lj_up_s, lj_or_bit]
    by_cases k : y = y'
    · rw [decide_eq_true k, decide_eq_true ⟨rfl, rfl, k⟩]
    · rw [decide_eq_false k, decide_eq_false (fun q => k q.2.2)]
  · rw [lj_up_n e, decide_eq_false (fun q => e (by rw [q.1, q.2.1]))]
    simp
theorem lj_up_lt {O : Nat → Nat} {k w N : Nat} (hO : ∀ j, O j < N) (hw : w < N) : ∀ j, lj_up O k w j < N := by
  intro j
  by_cases e : j = k
  · rw [e, lj_up_s]; exact hw
  · rw [lj_up_n e]; exact hO j
section
variable {m : Nat} {O B R F S : Nat → Nat} {a6 a7 : Nat → Int32}
theorem lj_wf_cl {r x y : Nat} (hw : lj_wf m O B R F S) (hx : x < 8) (hy : y < 8) : lj_wf m (lj_up O (r * 8 + x) (lj_cl (O (r * 8 + x)) y)) (lj_up B (r * 8 + y) (lj_cl (B (r * 8 + y)) x)) R F S := by
  obtain ⟨w1, w2, w3, w4, w5, w6, w7⟩ := hw
  refine ⟨w1, lj_up_lt w2 (Nat.lt_of_le_of_lt (lj_cl_le _ _) (w2 _)), lj_up_lt w3 (Nat.lt_of_le_of_lt (lj_cl_le _ _) (w3 _)), w4, w5, w6, fun r' x' y' hr hx' hy' => ?_⟩
  rw [lj_up_cl w2 hx hy hx' hy', lj_up_cl w3 hy hx hy' hx', w7 r' x' y' hr hx' hy']
  have e : (r = r' ∧ x = x' ∧ y = y') ↔ (r = r' ∧ y = y' ∧ x = x') := ⟨fun q => ⟨q.1, q.2.2, q.2.1⟩, fun q => ⟨q.1, q.2.2, q.2.1⟩⟩
  rw [decide_eq_decide.mpr e]
theorem lj_wf_or {r x y : Nat} (hw : lj_wf m O B R F S) (hx : x < 8) (hy : y < 8) : lj_wf m (lj_up O (r * 8 + x) (O (r * 8 + x) ||| 2 ^ y)) (lj_up B (r * 8 + y) (B (r * 8 + y) ||| 2 ^ x)) R F S := by
  obtain ⟨w1, w2, w3, w4, w5, w6, w7⟩ := hw
  refine ⟨w1, lj_up_lt w2 (lj_or_lt (n := 8) (w2 _) hy), lj_up_lt w3 (lj_or_lt (n := 8) (w3 _) hx), w4, w5, w6, fun r' x' y' hr hx' hy' => ?_⟩
  rw [lj_up_or hx hx', lj_up_or hy hy', w7 r' x' y' hr hx' hy']
  have e : (r = r' ∧ x = x' ∧ y = y') ↔ (r = r' ∧ y = y' ∧ x = x') := ⟨fun q => ⟨q.1, q.2.2, q.2.1⟩, fun q => ⟨q.1, q.2.2, q.2.1⟩⟩
  rw [decide_eq_decide.mpr e]
theorem lj_putOn {post : St1 → Prop} {r x y : Nat} (hw : lj_wf m O B R F S) (hr : r < 3) (hx : x < 8) (hy : y < 8) (H : post (lj_u m (lj_up O (r * 8 + x) (O (r * 8 + x) ||| 2 ^ y)) (lj_up B (r * 8 + y) (B (r * 8 + y) ||| 2 ^ x)) R F S a6 a7)) : wpX_put post (lj_u m O B R F S a6 a7) (nI r) (nI x) (nI y) 1 := by
  have w2 := hw.2.1
  have w3 := hw.2.2.1
  have e3 : upd (lj_f O) (nI (r * 8 + x)).toNatClampNeg ((lj_f O (nI (r * 8 + x)).toNatClampNeg ||| ((1 : Int32) <<< (nI y &&& 31))).toInt16.toInt32) = lj_f (lj_up O (r * 8 + x) (O (r * 8 + x) ||| 2 ^ y)) := by
    rw [lj_fa (r * 8 + x), nI_clamp (by omega), lj_put1 _ (w2 _) y hy, lj_fup]
  have e4 : upd (lj_f B) (nI (r * 8 + y)).toNatClampNeg ((lj_f B (nI (r * 8 + y)).toNatClampNeg ||| ((1 : Int32) <<< (nI x &&& 31))).toInt16.toInt32) = lj_f (lj_up B (r * 8 + y) (B (r * 8 + y) ||| 2 ^ x)) := by
    rw [lj_fa (r * 8 + y), nI_clamp (by omega), lj_put1 _ (w3 _) x hx, lj_fup]
  unfold wpX_put
  refine nm_r (lj_i8x r x) (nm_r (lj_i8x r y) (br_f (by decide) ⟨pk_in (r * 8 + x) 24 (by omega), ?_⟩))
  refine And.intro (pk_in (r * 8 + x) 24 (by omega)) (nm_r e3 (br_f (by decide) ⟨pk_in (r * 8 + y) 24 (by omega), pk_in (r * 8 + y) 24 (by omega), nm_r e4 H⟩))
theorem lj_putOff {post : St1 → Prop} {r x y : Nat} (hw : lj_wf m O B R F S) (hr : r < 3) (hx : x < 8) (hy : y < 8) (H : post (lj_u m (lj_up O (r * 8 + x) (lj_cl (O (r * 8 + x)) y)) (lj_up B (r * 8 + y) (lj_cl (B (r * 8 + y)) x)) R F S a6 a7)) : wpX_put post (lj_u m O B R F S a6 a7) (nI r) (nI x) (nI y) 0 := by
  have w2 := hw.2.1
  have w3 := hw.2.2.1
  have e3 : upd (lj_f O) (nI (r * 8 + x)).toNatClampNeg ((lj_f O (nI (r * 8 + x)).toNatClampNeg &&& (((1 : Int32) <<< (nI y &&& 31)) ^^^ (-1))).toInt16.toInt32) = lj_f (lj_up O (r * 8 + x) (lj_cl (O (r * 8 + x)) y)) := by
    rw [lj_fa (r * 8 + x), nI_clamp (by omega), lj_put0 _ (w2 _) y hy, lj_fup]
  have e4 : upd (lj_f B) (nI (r * 8 + y)).toNatClampNeg ((lj_f B (nI (r * 8 + y)).toNatClampNeg &&& (((1 : Int32) <<< (nI x &&& 31)) ^^^ (-1))).toInt16.toInt32) = lj_f (lj_up B (r * 8 + y) (lj_cl (B (r * 8 + y)) x)) := by
    rw [lj_fa (r * 8 + y), nI_clamp (by omega), lj_put0 _ (w3 _) x hx, lj_fup]
  unfold wpX_put
  refine nm_r (lj_i8x r x) (nm_r (lj_i8x r y) (br_t rfl ⟨pk_in (r * 8 + x) 24 (by omega), ?_⟩))
  refine And.intro (pk_in (r * 8 + x) 24 (by omega)) (nm_r e3 (br_t rfl ⟨pk_in (r * 8 + y) 24 (by omega), pk_in (r * 8 + y) 24 (by omega), nm_r e4 H⟩))
/-- less in the relations: fewer answers -/
theorem lj_al_sub {O' B' : Nat → Nat} (h1 : ∀ j i, i < 8 → (O' j).testBit i = true → (O j).testBit i = true) (h2 : ∀ j, O' j ≤ O j) (h3 : ∀ j i, i < 8 → (B' j).testBit i = true → (B j).testBit i = true) (h4 : ∀ j, B' j ≤ B j) {a d x : Nat} {t : Nat → Nat} (hx : x < 8) (k : lj_al O' B' R F S a d t x) : lj_al O B R F S a d t x := by
  unfold lj_al at k ⊢
  by_cases c1 : F a = d
  · rw [if_pos c1] at k ⊢
    by_cases c2 : S a = d
    · rw [if_pos c2] at k ⊢; exact h1 _ _ hx k
    · rw [if_neg c2] at k ⊢
      by_cases c3 : S a < d
      · rw [if_pos c3] at k ⊢; exact h3 _ _ hx k
      · rw [if_neg c3] at k ⊢
        have := h2 (R a * 8 + x)
        omega
  · rw [if_neg c1] at k ⊢
    by_cases c3 : F a < d
    · rw [if_pos c3] at k ⊢; exact h1 _ _ hx k
    · rw [if_neg c3] at k ⊢
      have := h4 (R a * 8 + x)
      omega
theorem lj_P_sub {O' B' : Nat → Nat} (h1 : ∀ j i, i < 8 → (O' j).testBit i = true → (O j).testBit i = true) (h2 : ∀ j, O' j ≤ O j) (h3 : ∀ j i, i < 8 → (B' j).testBit i = true → (B j).testBit i = true) (h4 : ∀ j, B' j ≤ B j) : ∀ c, lj_P m O' B' R F S c → lj_P m O B R F S c :=
  fun c h d hd => ⟨fun a ha hh => lj_al_sub h1 h2 h3 h4 (lj_dg_lt c d) ((h d hd).1 a ha hh), (h d hd).2⟩
theorem lj_up_cl_sub {O : Nat → Nat} {k y : Nat} (hO : ∀ j, O j < 256) (hy : y < 8) : (∀ j i, i < 8 → (lj_up O k (lj_cl (O k) y) j).testBit i = true → (O j).testBit i = true) ∧ ∀ j, lj_up O k (lj_cl (O k) y) j ≤ O j := by
  refine ⟨fun j i hi h => ?_, fun j => ?_⟩
  · by_cases e : j = k
    · rw [e, lj_up_s, lj_cl_bit _ (hO _) y hy i hi, Bool.and_eq_true] at h
      rw [e]
      exact h.1
    · rw [lj_up_n e] at h
      exact h
  · by_cases e : j = k
    · rw [e, lj_up_s]; exact lj_cl_le _ _
    · rw [lj_up_n e]; exact Nat.le_refl _
theorem lj_up_back {O : Nat → Nat} {k y : Nat} (hO : ∀ j, O j < 256) (hy : y < 8) (h : (O k).testBit y = true) : lj_up (lj_up O k (lj_cl (O k) y)) k (lj_up O k (lj_cl (O k) y) k ||| 2 ^ y) = O := by
  funext j
  by_cases e : j = k
  · rw [e, lj_up_s, lj_up_s, lj_cl_or _ (hO _) y hy h]
  · rw [lj_up_n e, lj_up_n e]
theorem lj_loss {post : Int32 → St1 → Prop} {r x y : Nat} (hw : lj_wf m O B R F S) (hr : r < 3) (hx : x < 8) (hy : y < 8) (H : ∀ k, k ≤ lj_ct (lj_P m O B R F S) 4096 → ((O (r * 8 + x)).testBit y = false → k = 0) → ∀ b6 b7, post (nI k) (lj_u m O B R F S b6 b7)) : wpX_loss post (lj_u m O B R F S a6 a7) (nI r) (nI x) (nI y) := by
  have w2 := hw.2.1
  have w3 := hw.2.2.1
  have wo := w2 (r * 8 + x)
  have w' := lj_wf_cl (r := r) hw hx hy
  unfold wpX_loss
  refine lj_isR hr (br_f (by decide) (lj_isT hx (br_f (by decide) (lj_isT hy (br_f (by decide) ⟨pk_in (r * 8 + x) 24 (by omega) (lj_i8x r x), ?_⟩)))))
  rw [lj_fa (r * 8 + x) (lj_i8x r x)]
  refine lj_in (by omega) (by omega) (fun hb => br_t rfl (H 0 (Nat.zero_le _) (fun _ => rfl) a6 a7)) (fun hb => br_f (by decide) ?_)
  have hb' : (B (r * 8 + y)).testBit x = true := by rw [← hw.2.2.2.2.2.2 r x y hr hx hy]; exact hb
  refine lj_count hw (fun b6 b7 => ?_)
  refine lj_putOff hw hr hx hy ?_
  refine lj_count w' (fun c6 c7 => ?_)
  refine lj_putOn w' hr hx hy ?_
  rw [lj_up_back w2 hy hb, lj_up_back w3 hx hb']
  have s1 := lj_up_cl_sub (k := r * 8 + x) w2 hy
  have s2 := lj_up_cl_sub (k := r * 8 + y) w3 hx
  have le := lj_ct_sub (lj_P_sub (m := m) (R := R) (F := F) (S := S) s1.1 s1.2 s2.1 s2.2) 4096
  have f := H (lj_ct (lj_P m O B R F S) 4096 - lj_ct (lj_P m (lj_up O (r * 8 + x) (lj_cl (O (r * 8 + x)) y)) (lj_up B (r * 8 + y) (lj_cl (B (r * 8 + y)) x)) R F S) 4096) (by omega) (fun q => absurd (hb.symm.trans q) (by decide)) c6 c7
  rw [← pk_sub le] at f
  exact f
theorem lj_lossN {post : Int32 → St1 → Prop} (H : post (-1) (lj_u m O B R F S a6 a7)) : wpX_loss post (lj_u m O B R F S a6 a7) 0 8 0 := by
  unfold wpX_loss
  exact br_f (by decide) (br_f (by decide) (br_f (by decide) (br_f (by decide) (br_t (by decide) (br_t rfl H)))))
theorem lj_isR2 {post : Int32 → Prop} {x : Int32} (h0 : post 0) (h1 : ∀ r, r < 3 → x = nI r → post 1) : wpX_isRelation post () x := br_c (fun _ => h0) (fun c => br_c (fun _ => h0) (fun c2 => by
  rcases pk_ix x (n := 3) (by omega) with q | q | ⟨j, q, e⟩
  · exact absurd q c
  · exact absurd q c2
  · exact h1 j q e))
theorem lj_isT2 {post : Int32 → Prop} {x : Int32} (h0 : post 0) (h1 : ∀ r, r < 8 → x = nI r → post 1) : wpX_isThing post () x := br_c (fun _ => h0) (fun c => br_c (fun _ => h0) (fun c2 => by
  rcases pk_ix x (n := 8) (by omega) with q | q | ⟨j, q, e⟩
  · exact absurd q c
  · exact absurd q c2
  · exact h1 j q e))
theorem lj_isV2 {post : Int32 → Prop} {x : Int32} (h0 : post 0) (h1 : ∀ r, r < 4 → x = nI r → post 1) : wpX_isVariable post () x := br_c (fun _ => h0) (fun c => br_c (fun _ => h0) (fun c2 => by
  rcases pk_ix x (n := 4) (by omega) with q | q | ⟨j, q, e⟩
  · exact absurd q c
  · exact absurd q c2
  · exact h1 j q e))
theorem lj_pair {post : Int32 → St1 → Prop} {p0 p1 p2 p3 : Int32} (h3 : p3 = 0 ∨ p3 = 1) (hw : lj_wf m O B R F S) (H : ∀ r O' B', lj_wf m O' B' R F S → post r (lj_u m O' B' R F S a6 a7)) : wpX_pair post (lj_u m O B R F S a6 a7) p0 p1 p2 p3 := by
  unfold wpX_pair
  refine lj_isR2 (br_t rfl (H _ O B hw)) (fun r hr er => br_f (by decide) (lj_isT2 (br_t rfl (H _ O B hw)) (fun x hx ex => br_f (by decide) (lj_isT2 (br_t rfl (H _ O B hw)) (fun y hy ey => br_f (by decide) ?_)))))
  subst er ex ey
  rcases h3 with e | e
  · subst e
    exact lj_putOff hw hr hx hy (H _ _ _ (lj_wf_cl hw hx hy))
  · subst e
    exact lj_putOn hw hr hx hy (H _ _ _ (lj_wf_or hw hx hy))
theorem lj_atom {post : Int32 → St1 → Prop} {p0 p1 p2 : Int32} (hw : lj_wf m O B R F S) (H : ∀ r m' R' F' S', lj_wf m' O B R' F' S' → post r (lj_u m' O B R' F' S' a6 a7)) : wpX_atom post (lj_u m O B R F S a6 a7) p0 p1 p2 := by
  obtain ⟨w1, w2, w3, w4, w5, w6, w7⟩ := id hw
  unfold wpX_atom
  refine lj_isR2 (br_t rfl (H _ m R F S hw)) (fun r hr er => br_f (by decide) (lj_isV2 (br_t rfl (H _ m R F S hw)) (fun v hv ev => br_f (by decide) (lj_isV2 (br_t rfl (H _ m R F S hw)) (fun w hw' ew => br_f (by decide) ?_)))))
  subst er ev ew
  refine pk_lt m 5 (fun c => ?_) (fun c => H _ m R F S hw)
  have ux : ∀ (A : Nat → Nat) (x : Nat), x < 8 → upd (lj_f A) (nI m).toNatClampNeg ((nI x).toInt8.toInt32) = lj_f (lj_up A m x) := by
    intro A x hx
    rw [nI_clamp (by omega), lj_i8 _ (by omega), lj_fup]
  refine And.intro (pk_in m 5 c) (nm_r (ux R r (by omega)) ⟨pk_in m 5 c, nm_r (ux F v (by omega)) ⟨pk_in m 5 c, nm_r (ux S w (by omega)) (nm_r (nI_1 m) (H _ (m + 1) _ _ _ ?_))⟩⟩)
  exact ⟨by omega, w2, w3, lj_up_lt w4 hr, lj_up_lt w5 hv, lj_up_lt w6 hw', w7⟩
theorem lj_drop {post : Int32 → St1 → Prop} (hw : lj_wf m O B R F S) (H : ∀ r m', lj_wf m' O B R F S → post r (lj_u m' O B R F S a6 a7)) : wpX_drop post (lj_u m O B R F S a6 a7) := by
  obtain ⟨w1, w2⟩ := id hw
  unfold wpX_drop
  refine pk_eq m 0 (fun c => H _ m hw) (fun c => ?_)
  have e : nI m - 1 = nI (m - 1) := by
    have := nI_pred (m - 1)
    rw [show m - 1 + 1 = m by omega] at this
    exact this
  exact nm_r e (H _ (m - 1) ⟨by omega, w2⟩)
theorem lj_turn {post : St1 → Prop} {p1 p2 p3 p4 : Int32} (hw : lj_wf m O B R F S) (H : ∀ m' O' B' R' F' S', lj_wf m' O' B' R' F' S' → post (lj_u m' O' B' R' F' S' a6 a7)) : wpL_turn post (lj_u m O B R F S a6 a7) p1 p2 p3 p4 := by
  have h80 : ∀ z0 z1 z2 z3 : Int32, (z0 = 0 ∨ z0 = 1) → wL_turn_80 post z0 z1 z2 z3 (nI m) (lj_f O) (lj_f B) (lj_f R) (lj_f F) (lj_f S) a6 a7 := by
    intro z0 z1 z2 z3 h
    unfold wL_turn_80
    exact lj_pair h hw (fun _ O' B' h => H m O' B' R F S h)
  have h68 : ∀ x1 z0 z1 z2 : Int32, wL_turn_68 post x1 z0 z1 z2 (nI m) (lj_f O) (lj_f B) (lj_f R) (lj_f F) (lj_f S) a6 a7 := fun x1 z0 z1 z2 => br_c (fun _ => h80 _ _ _ _ (Or.inl rfl)) (fun _ => h80 _ _ _ _ (Or.inr rfl))
  have h53 : ∀ x1 x4 x6 z0 z1 : Int32, wL_turn_53 post x1 x4 x6 z0 z1 (nI m) (lj_f O) (lj_f B) (lj_f R) (lj_f F) (lj_f S) a6 a7 := fun x1 x4 x6 z0 z1 => br_c (fun _ => h68 _ _ _ _) (fun _ => h68 _ _ _ _)
  have h40 : ∀ x1 x3 x4 x6 z0 : Int32, wL_turn_40 post x1 x3 x4 x6 z0 (nI m) (lj_f O) (lj_f B) (lj_f R) (lj_f F) (lj_f S) a6 a7 := fun x1 x3 x4 x6 z0 => br_c (fun _ => h53 _ _ _ _ _) (fun _ => h53 _ _ _ _ _)
  have h133 : ∀ z0 z1 z2 : Int32, wL_turn_133 post z0 z1 z2 (nI m) (lj_f O) (lj_f B) (lj_f R) (lj_f F) (lj_f S) a6 a7 := by
    intro z0 z1 z2
    unfold wL_turn_133
    exact lj_atom hw (fun _ m' R' F' S' h => H m' O B R' F' S' h)
  have h119 : ∀ x4 x6 z0 z1 : Int32, wL_turn_119 post x4 x6 z0 z1 (nI m) (lj_f O) (lj_f B) (lj_f R) (lj_f F) (lj_f S) a6 a7 := fun x4 x6 z0 z1 => br_c (fun _ => h133 _ _ _) (fun _ => h133 _ _ _)
  have h107 : ∀ x3 x4 x6 z0 : Int32, wL_turn_107 post x3 x4 x6 z0 (nI m) (lj_f O) (lj_f B) (lj_f R) (lj_f F) (lj_f S) a6 a7 := fun x3 x4 x6 z0 => br_c (fun _ => h119 _ _ _ _) (fun _ => h119 _ _ _ _)
  have h18 : ∀ x1 x2 x3 x4 x5 z0 : Int32, wL_turn_18 post x1 x2 x3 x4 x5 z0 (nI m) (lj_f O) (lj_f B) (lj_f R) (lj_f F) (lj_f S) a6 a7 := fun x1 x2 x3 x4 x5 z0 => br_c (fun _ => br_c (fun _ => lj_drop hw (fun _ m' h => H m' O B R F S h)) (fun _ => br_c (fun _ => h107 _ _ _ _) (fun _ => h107 _ _ _ _))) (fun _ => br_c (fun _ => h40 _ _ _ _ _) (fun _ => h40 _ _ _ _ _))
  unfold wpL_turn
  exact nm_e (br_c (fun _ => h18 _ _ _ _ _ _) (fun _ => h18 _ _ _ _ _ _))
end
end
section
section
variable {m : Nat} {O B R F S : Nat → Nat} {a6 a7 : Nat → Int32}
theorem lj_rel60 {post : Int32 → Prop} {J2 : Int32 → Prop} {J14 : Int32 → Int32 → Int32 → Prop} {r x : Nat} {x2 x3 : Int32} (hw : lj_wf m O B R F S) (hr : r < 3) (hx : x < 8) (H : J14 x2 x3 (nI (x + 1))) : ∃ fu, wL_relations_60 post J2 J14 (nI r) x2 x3 (nI x) (nI (O (r * 8 + x))) (nI m) (lj_f O) (lj_f B) (lj_f R) (lj_f F) (lj_f S) a6 a7 fu 0 := by
  refine pk_loop (σ := Unit) (fun n y _ => wL_relations_60 post J2 J14 (nI r) x2 x3 (nI x) (nI (O (r * 8 + x))) (nI m) (lj_f O) (lj_f B) (lj_f R) (lj_f F) (lj_f S) a6 a7 n (nI y)) (fun _ _ => True) 8 0 () (by omega) trivial (fun n _ _ => pk_le 8 8 (fun _ => nm_r (nI_1 x) H) (fun z => absurd z (by omega))) (fun n y _ hy _ hn => pk_le 8 y (fun z => absurd z (by omega)) (fun _ => lj_partners1 hr hy (br_t ?_ (nm_r (nI_1 y) (hn () trivial)))))
  have w2 := hw.2.1 (r * 8 + x)
  have w3 := hw.2.2.1 (r * 8 + y)
  rw [lj_bit (by omega) (by omega), lj_bit (by omega) (by omega), hw.2.2.2.2.2.2 r x y hr hx hy]
theorem lj_rel14 {post : Int32 → Prop} {J2 : Int32 → Prop} {r : Nat} (hw : lj_wf m O B R F S) (hr : r < 3) (H : J2 (nI (r + 1))) : ∃ fu, wL_relations_14 post J2 (nI r) (nI m) (lj_f O) (lj_f B) (lj_f R) (lj_f F) (lj_f S) a6 a7 fu 0 0 0 := by
  refine pk_loop (σ := Unit) (fun n x _ => wL_relations_14 post J2 (nI r) (nI m) (lj_f O) (lj_f B) (lj_f R) (lj_f F) (lj_f S) a6 a7 n (nI (lj_sum (fun x => lj_pc (O (r * 8 + x)) 8) x)) (nI (lj_sum (fun x => lj_pc (B (r * 8 + x)) 8) x)) (nI x)) (fun _ _ => True) 8 0 () (by omega) trivial (fun n _ _ => pk_le 8 8 (fun _ => lj_size hw hr (br_t rfl (br_t (congrArg nI ?_) (nm_r (nI_1 r) H)))) (fun z => absurd z (by omega))) (fun n x _ hx _ hn => pk_le 8 x (fun z => absurd z (by omega)) (fun _ => lj_partners0 hr hx (lj_partners1 hr hx (lj_onesL (hw.2.1 _) (nm_r (nI_add _ _) (lj_onesL (hw.2.2.1 _) (nm_r (nI_add _ _) (lj_rel60 hw hr hx (hn () trivial)))))))))
  exact lj_rc (fun x y hx hy => hw.2.2.2.2.2.2 r x y hr hx hy)
theorem lj_relations {post : Int32 → Prop} (hw : lj_wf m O B R F S) (H : post 1) : wpL_relations post (lj_u m O B R F S a6 a7) := by
  unfold wpL_relations
  exact pk_loop (σ := Unit) (fun n r _ => wL_relations_2 post (nI m) (lj_f O) (lj_f B) (lj_f R) (lj_f F) (lj_f S) a6 a7 n (nI r)) (fun _ _ => True) 3 0 () (by omega) trivial (fun n _ _ => pk_le 3 3 (fun _ => H) (fun z => absurd z (by omega))) (fun n r _ hr _ hn => pk_le 3 r (fun z => absurd z (by omega)) (fun _ => lj_rel14 hw hr (hn () trivial)))
theorem lj_seekG {post : Int32 → St1 → Prop} {x : Int32} (hw : lj_wf m O B R F S) (H : ∀ r, (r = -1 ∨ ∃ z, z < 4096 ∧ r = nI z ∧ lj_P m O B R F S z ∧ ¬ nI z < x) → ∀ b6 b7, post r (lj_u m O B R F S b6 b7)) : wpX_seek post (lj_u m O B R F S a6 a7) x := by
  have h0 : (0 : Int32).toInt = 0 := by decide
  rcases pk_ix x (n := 4096) (by omega) with q | q | ⟨j, q, e⟩
  · refine lj_seekN hw q (fun z hz b6 b7 => H _ ?_ b6 b7)
    by_cases c : z < 4096
    · refine Or.inr ⟨z, c, lj_r_t c, hz.2.2.1 c, ?_⟩
      rw [Int32.lt_iff_toInt_lt] at q ⊢
      rw [nI_toInt (by omega)]
      omega
    · exact Or.inl (lj_r_f c)
  · exact lj_seekB q (H _ (Or.inl rfl) _ _)
  · subst e
    refine lj_seek hw (by omega) (fun z hz b6 b7 => H _ ?_ b6 b7)
    by_cases c : z < 4096
    · exact Or.inr ⟨z, c, lj_r_t c, hz.2.2.1 c, nI_nlt hz.1 (by omega)⟩
    · exact Or.inl (lj_r_f c)
theorem lj_ans197 {post : Int32 → St1 → Prop} {fr : Int32} (hw : lj_wf m O B R F S) (H : ∀ b6 b7, post 1 (lj_u m O B R F S b6 b7)) : wL_answers_197 post fr (nI (lj_ct (lj_P m O B R F S) 4096)) (nI m) (lj_f O) (lj_f B) (lj_f R) (lj_f F) (lj_f S) a6 a7 := by
  have cl := lj_ct_le (lj_P m O B R F S) 4096
  unfold wL_answers_197
  refine lj_seekG hw (fun rr hrr b6 b7 => ?_)
  refine br_f (nI_pos (by omega)) (pk_lt 4096 (lj_ct (lj_P m O B R F S) 4096) (fun c => absurd c (by omega)) (fun _ => ?_))
  refine lj_answer hw cl (fun z z1 z2 z3 c6 c7 => br_t ?_ (lj_answerN (br_t rfl ?_)))
  · refine lj_r_f (fun c => ?_)
    obtain ⟨p1, p2⟩ := z2 c
    have t := lj_ct_mono (lj_P m O B R F S) (show z + 1 ≤ 4096 from c)
    rw [lj_ct_t p1] at t
    omega
  · rcases hrr with e | ⟨z, z1, e, z2, z3⟩
    · subst e
      exact br_t (by decide) (H _ _)
    · subst e
      exact br_f (nI_pos (by omega)) (br_f z3 (pk_lt 4095 z (fun c => absurd c (by omega)) (fun _ => lj_holds hw z1 z2 (fun d6 d7 => br_f (by decide) (H d6 d7)))))
theorem lj_ans138 {post : Int32 → St1 → Prop} {fr : Int32} (hw : lj_wf m O B R F S) (H : ∀ b6 b7, post 1 (lj_u m O B R F S b6 b7)) : ∃ fu, wL_answers_138 post fr (nI (lj_ct (lj_P m O B R F S) 4096)) fu (-1) 0 (nI m) (lj_f O) (lj_f B) (lj_f R) (lj_f F) (lj_f S) a6 a7 := by
  have cl := lj_ct_le (lj_P m O B R F S) 4096
  refine loop_m (fun n (s : Int32 × Nat × Nat × (Nat → Int32) × (Nat → Int32)) => wL_answers_138 post fr (nI (lj_ct (lj_P m O B R F S) 4096)) n s.1 (nI s.2.2.1) (nI m) (lj_f O) (lj_f B) (lj_f R) (lj_f F) (lj_f S) s.2.2.2.1 s.2.2.2.2)
    (fun s => ((s.1 = -1 ∧ s.2.1 = 0) ∨ ∃ q, q < 4096 ∧ s.1 = nI q ∧ s.2.1 = q + 1) ∧ s.2.1 ≤ 4096 ∧ lj_ct (lj_P m O B R F S) s.2.1 = s.2.2.1 ∧ s.2.2.1 ≤ 8) (fun s => 8 - s.2.2.1) ?_ (-1, 0, 0, a6, a7) ⟨Or.inl ⟨rfl, rfl⟩, Nat.zero_le _, rfl, Nat.zero_le _⟩
  intro n ⟨la, b, k, b6, b7⟩ I hn
  dsimp only at I hn ⊢
  obtain ⟨i1, i2, i3, i4⟩ := I
  refine pk_le 8 k (fun _ => lj_ans197 hw H) (fun c => pk_le (lj_ct (lj_P m O B R F S) 4096) k (fun _ => lj_ans197 hw H) (fun c2 => ?_))
  refine lj_answer hw (by omega) (fun z z1 z2 z3 c6 c7 => ?_)
  have z4 : z < 4096 := by
    rcases Nat.lt_or_ge z 4096 with q | q
    · exact q
    · have := z3 (by omega)
      omega
  obtain ⟨pz, cz⟩ := z2 z4
  have bz : b ≤ z := by
    rcases Nat.lt_or_ge z b with q | q
    · have t := lj_ct_mono (lj_P m O B R F S) (show z + 1 ≤ b from q)
      rw [lj_ct_t pz] at t
      omega
    · exact q
  have el : la + 1 = nI b := by
    rcases i1 with ⟨e1, e2⟩ | ⟨q, _, e1, e2⟩
    · rw [e1, e2]; rfl
    · rw [e1, e2, nI_1]
  have nl : ¬ nI z ≤ la := by
    rcases i1 with ⟨e1, e2⟩ | ⟨q, _, e1, e2⟩
    · rw [e1, Int32.le_iff_toInt_le, nI_toInt (by omega), show (-1 : Int32).toInt = -1 from by decide]
      omega
    · rw [e1]
      exact nI_ge (by omega) (by omega)
  rw [lj_r_t z4]
  refine br_f nl (lj_holds hw z4 pz (fun d6 d7 => br_f (by decide) ?_))
  rw [el]
  refine lj_seek hw i2 (fun y hy f6 f7 => ?_)
  have cy := lj_ct_from hy
  have y4 : y < 4096 := by
    rcases Nat.lt_or_ge y 4096 with q | q
    · exact q
    · have e : y = 4096 := by have := hy.2.1; omega
      rw [e] at cy
      omega
  have ey : y = z := lj_ct_inj (hy.2.2.1 y4) pz (by omega)
  refine br_t (by rw [ey, lj_r_t z4]) (nm_r (nI_1 k) (hn (nI z, z + 1, k + 1, f6, f7) ⟨Or.inr ⟨z, z4, rfl, rfl⟩, z4, ?_, by dsimp only; omega⟩ (by dsimp only; omega)))
  dsimp only
  rw [lj_ct_t pz, cz]
theorem lj_ans30 {post : Int32 → St1 → Prop} {J10 : Int32 → Int32 → (Nat → Int32) → (Nat → Int32) → (Nat → Int32) → (Nat → Int32) → (Nat → Int32) → (Nat → Int32) → (Nat → Int32) → Prop} {v : Nat} {x1 x3 : Int32} (hw : lj_wf m O B R F S) (hv : v < 4) (H : ∀ b6 b7, J10 (nI (v + 1)) (nI m) (lj_f O) (lj_f B) (lj_f R) (lj_f F) (lj_f S) b6 b7) :
    ∃ fu, wL_answers_30 post J10 x1 (nI (lj_ct (lj_P m O B R F S) 4096)) x3 (nI v) (nI (lj_vs (lj_P m O B R F S) v 4096)) fu 0 0 (nI m) (lj_f O) (lj_f B) (lj_f R) (lj_f F) (lj_f S) a6 a7 := by
  have cl := lj_ct_le (lj_P m O B R F S) 4096
  have vl := lj_vs_lt (lj_P m O B R F S) v 4096
  refine pk_loop (σ := (Nat → Int32) × (Nat → Int32)) (fun n i s => wL_answers_30 post J10 x1 (nI (lj_ct (lj_P m O B R F S) 4096)) x3 (nI v) (nI (lj_vs (lj_P m O B R F S) v 4096)) n (nI (lj_sum (fun x => lj_cw (lj_P m O B R F S) v x 4096) i)) (nI i) (nI m) (lj_f O) (lj_f B) (lj_f R) (lj_f F) (lj_f S) s.1 s.2) (fun _ _ => True) 8 0 (a6, a7) (by omega) trivial ?_ ?_
  · intro n s _
    refine pk_le 8 8 (fun _ => br_t (congrArg nI (lj_cw_sum _ v 4096)) (lj_pairs hw hv hv (fun b6 b7 => lj_onesL vl (br_t (congrArg nI (lj_ps_vv _ v 4096)) ?_)))) (fun z => absurd z (by omega))
    rw [show (3 : Int32) - nI v = nI (3 - v) from pk_sub (a := 3) (by omega)]
    exact lj_pairs hw hv (by omega) (fun c6 c7 => br_t (nI_le (lj_ps_le _ v (3 - v) 4096) (by omega)) (nm_r (nI_1 v) (H c6 c7)))
  · intro n i s hi _ hn
    refine pk_le 8 i (fun z => absurd z (by omega)) (fun _ => lj_countWith hw hv hi (fun b6 b7 => nm_r (nI_add _ _) ?_))
    have cw := lj_cw_le (lj_P m O B R F S) v i 4096
    have iff := lj_cw_vs (lj_P m O B R F S) v i 4096
    refine pk_le (lj_cw (lj_P m O B R F S) v i 4096) 0 (fun c => ?_) (fun c => ?_)
    · have hb : (lj_vs (lj_P m O B R F S) v 4096).testBit i = false := by
        cases h : (lj_vs (lj_P m O B R F S) v 4096).testBit i
        · rfl
        · exact absurd (iff.mpr h) (by omega)
      unfold wL_answers_64
      rw [lj_bit (by omega) (by omega), hb]
      exact br_f (by decide) (br_t rfl (nm_r (nI_1 i) (hn (b6, b7) trivial)))
    · have hb := iff.mp c
      unfold wL_answers_64
      rw [lj_bit (by omega) (by omega), hb]
      exact br_t rfl (br_t rfl (nm_r (nI_1 i) (hn (b6, b7) trivial)))
theorem lj_answers {post : Int32 → St1 → Prop} {fr : Int32} (hw : lj_wf m O B R F S) (H : ∀ b6 b7, post 1 (lj_u m O B R F S b6 b7)) : wpL_answers post (lj_u m O B R F S a6 a7) fr := by
  unfold wpL_answers
  refine lj_count hw (fun b6 b7 => ?_)
  exact pk_loop (σ := (Nat → Int32) × (Nat → Int32)) (fun n v s => wL_answers_10 post fr (nI (lj_ct (lj_P m O B R F S) 4096)) (-1) n (nI v) (nI m) (lj_f O) (lj_f B) (lj_f R) (lj_f F) (lj_f S) s.1 s.2) (fun _ _ => True) 4 0 (b6, b7) (by omega) trivial (fun n s _ => pk_le 4 4 (fun _ => lj_ans138 hw H) (fun z => absurd z (by omega))) (fun n v s hv _ hn => pk_le 4 v (fun z => absurd z (by omega)) (fun _ => lj_values hw hv (fun c6 c7 => lj_ans30 hw hv (fun d6 d7 => hn (d6, d7) trivial))))
end
end
section
section
variable {m : Nat} {O B R F S : Nat → Nat} {a6 a7 : Nat → Int32}
theorem lj_sizeB {post : Int32 → Prop} (H : post (-1)) : wpX_size post (lj_u m O B R F S a6 a7) 3 := by
  unfold wpX_size
  exact br_f (by decide) (br_t (by decide) (br_t rfl H))
theorem lj_valuesB {post : Int32 → St1 → Prop} (H : post 0 (lj_u m O B R F S a6 a7)) : wpX_values post (lj_u m O B R F S a6 a7) 4 := by
  unfold wpX_values
  exact br_f (by decide) (br_t (by decide) (br_t rfl ⟨1, br_f (by decide) (br_t (by decide) H)⟩))
theorem lj_countWithN {post : Int32 → St1 → Prop} (H : post 0 (lj_u m O B R F S a6 a7)) : wpX_countWith post (lj_u m O B R F S a6 a7) (-1) 0 := by
  unfold wpX_countWith
  exact br_t (by decide) (br_t rfl ⟨1, br_f (by decide) (br_t (by decide) H)⟩)
theorem lj_pairsB {post : Int32 → St1 → Prop} (H : post 0 (lj_u m O B R F S a6 a7)) : wpX_pairs post (lj_u m O B R F S a6 a7) 0 4 := by
  unfold wpX_pairs
  have h : post (nI (lj_pc 0 64)) (lj_u m O B R F S a6 a7) := by
    rw [lj_pc_0]
    exact H
  exact br_f (by decide) (br_f (by decide) (br_f (by decide) (br_f (by decide) (br_t (by decide) (br_t rfl ⟨1, br_f (by decide) (br_t (by decide) (lj_pairs90 (s := 0) (by decide) h))⟩)))))
theorem lj_partnersB {post : Int32 → Prop} (H : post 0) : wpX_partners post (lj_u m O B R F S a6 a7) 0 0 2 := by
  unfold wpX_partners
  exact br_f (by decide) (br_f (by decide) (br_f (by decide) (br_f (by decide) (br_f (by decide) (br_f (by decide) (br_f (by decide) (br_f (by decide) H)))))))
theorem lj_163 {post : Int32 → Prop} {L : Nat} {xs : Nat → Int32} {J10 : Int32 → Int32 → (Nat → Int32) → (Nat → Int32) → (Nat → Int32) → (Nat → Int32) → (Nat → Int32) → (Nat → Int32) → (Nat → Int32) → Prop} {k kc ks : Nat} (H : J10 (nI (k + 4)) (nI m) (lj_f O) (lj_f B) (lj_f R) (lj_f F) (lj_f S) a6 a7) : wL_law_163 post L xs J10 (nI k) kc ks (nI m) (lj_f O) (lj_f B) (lj_f R) (lj_f F) (lj_f S) a6 a7 := by
  unfold wL_law_163
  refine lj_sizeB (br_t rfl ?_)
  refine lj_valuesB (br_t rfl ?_)
  refine lj_countWithN (br_t rfl ?_)
  refine lj_pairsB (br_t rfl ?_)
  refine lj_holdsB (br_t rfl ?_)
  refine lj_holdsN (br_t rfl ?_)
  refine lj_seekB (by decide) (br_t rfl ?_)
  refine lj_lossN (br_t rfl ?_)
  refine lj_partnersB (br_t rfl ?_)
  exact nm_r (nI_add k 4) H
theorem lj_108 {post : Int32 → Prop} {L : Nat} {xs : Nat → Int32} {J10 : Int32 → Int32 → (Nat → Int32) → (Nat → Int32) → (Nat → Int32) → (Nat → Int32) → (Nat → Int32) → (Nat → Int32) → (Nat → Int32) → Prop} {k w z kc ks : Nat} (hw : lj_wf m O B R F S) (hk : vp_in (nI k) L) (h1 : w ≤ lj_ct (lj_P m O B R F S) 4096) (hz : z < 2) (h2 : z = 0 → w = 0) (H : ∀ b6 b7, J10 (nI (k + 4)) (nI m) (lj_f O) (lj_f B) (lj_f R) (lj_f F) (lj_f S) b6 b7) : wL_law_108 post L xs J10 (nI k) (nI w) (nI z) kc ks (nI m) (lj_f O) (lj_f B) (lj_f R) (lj_f F) (lj_f S) a6 a7 := by
  have cl := lj_ct_le (lj_P m O B R F S) 4096
  unfold wL_law_108
  refine lj_relations hw (br_f (by decide) ⟨hk, ?_⟩)
  refine lj_answers hw (fun b6 b7 => br_f (by decide) (br_f (nI_pos (by omega)) ?_))
  refine lj_count hw (fun c6 c7 => br_f (nI_nlt h1 (by omega)) ?_)
  exact pk_eq z 0 (fun c => pk_eq w 0 (fun _ => lj_163 (H c6 c7)) (fun d => absurd (h2 c) d)) (fun _ => lj_163 (H c6 c7))
end
theorem lj_law (xs : Nat → Int32) (L : Nat) (hL : L ≤ 260) (kc ks : Nat) (m : Nat) (O B R F S : Nat → Nat) (a6 a7 : Nat → Int32) (hw : lj_wf m O B R F S) : ∃ fu, wL_law_10 (fun r => r = 1) L xs kc ks fu 0 (nI m) (lj_f O) (lj_f B) (lj_f R) (lj_f F) (lj_f S) a6 a7 := by
  refine loop_m (fun n (s : Nat × Nat × (Nat → Nat) × (Nat → Nat) × (Nat → Nat) × (Nat → Nat) × (Nat → Nat) × (Nat → Int32) × (Nat → Int32)) => wL_law_10 (fun r => r = 1) L xs kc ks n (nI s.1) (nI s.2.1) (lj_f s.2.2.1) (lj_f s.2.2.2.1) (lj_f s.2.2.2.2.1) (lj_f s.2.2.2.2.2.1) (lj_f s.2.2.2.2.2.2.1) s.2.2.2.2.2.2.2.1 s.2.2.2.2.2.2.2.2)
    (fun s => lj_wf s.2.1 s.2.2.1 s.2.2.2.1 s.2.2.2.2.1 s.2.2.2.2.2.1 s.2.2.2.2.2.2.1 ∧ s.1 ≤ L) (fun s => L - s.1) ?_ (0, m, O, B, R, F, S, a6, a7) ⟨hw, Nat.zero_le L⟩
  intro n ⟨k, m, O, B, R, F, S, a6, a7⟩ I hn
  dsimp only at I hn ⊢
  obtain ⟨hw, hk⟩ := I
  refine pk_le L (k + 3) (fun c => rfl) (fun c => ?_) rfl (nI_add k 3)
  have vk : vp_in (nI k) L := pk_in k L (by omega)
  refine ⟨vk, pk_in (k + 1) L (by omega) (nI_add k 1), pk_in (k + 2) L (by omega) (nI_add k 2), pk_in (k + 3) L (by omega) (nI_add k 3), ?_⟩
  refine lj_turn hw (fun m' O' B' R' F' S' hw' => ?_)
  obtain ⟨j, hj, ej⟩ := pk_andE (xs (nI k).toNatClampNeg >>> ((7 : Int32) &&& 31)) (m := 255) 8 (by decide)
  obtain ⟨x, hx, ex⟩ := pk_andE (xs (nI k).toNatClampNeg >>> ((15 : Int32) &&& 31)) (m := 7) 3 (by decide)
  obtain ⟨y, hy, ey⟩ := pk_andE (xs (nI k).toNatClampNeg >>> ((18 : Int32) &&& 31)) (m := 7) 3 (by decide)
  have er : ((xs (nI k).toNatClampNeg >>> ((7 : Int32) &&& 31)) &&& 255) - ((xs (nI k).toNatClampNeg >>> ((7 : Int32) &&& 31)) &&& 255) / 3 * 3 = nI (j % 3) := by
    rw [ej]
    exact pk_rem (d := 3) (by omega) (by omega) (by omega)
  have r3 : j % 3 < 3 := Nat.mod_lt _ (by omega)
  refine And.intro vk ⟨by decide, nm_r er ⟨vk, nm_r ex ⟨vk, nm_r ey ?_⟩⟩⟩
  refine lj_loss hw' r3 hx hy (fun w w1 w2 b6 b7 => ?_)
  refine lj_partners0 r3 hx ?_
  have go : ∀ c6 c7, wL_law_10 (fun r => r = 1) L xs kc ks n (nI (k + 4)) (nI m') (lj_f O') (lj_f B') (lj_f R') (lj_f F') (lj_f S') c6 c7 := fun c6 c7 => hn (k + 4, m', O', B', R', F', S', c6, c7) ⟨hw', by dsimp only; omega⟩ (by dsimp only; omega)
  have wo := hw'.2.1 (j % 3 * 8 + x)
  rw [lj_bit (by omega) (by omega)]
  cases hb : (O' (j % 3 * 8 + x)).testBit y
  · exact br_f (by decide) (lj_108 (z := 0) hw' vk w1 (by decide) (fun _ => w2 hb) go)
  · exact br_t rfl (lj_108 (z := 1) hw' vk w1 (by decide) (fun q => absurd q (by decide)) go)
theorem lj_wf0 : lj_wf 0 (fun _ => 0) (fun _ => 0) (fun _ => 0) (fun _ => 0) (fun _ => 0) := ⟨Nat.zero_le 5, fun _ => Nat.succ_pos 255, fun _ => Nat.succ_pos 255, fun _ => Nat.succ_pos 2, fun _ => Nat.succ_pos 3, fun _ => Nat.succ_pos 3, fun _ _ _ _ _ _ => by rw [Nat.zero_testBit, Nat.zero_testBit]⟩
theorem i_vc (xs : Nat → Int32) (L : Nat) (hL : L ≤ 260) : wpL_law (fun r => r = 1) L xs := by
  unfold wpL_law
  refine ⟨7, 71, by decide, by decide, ?_⟩
  unfold wpX_init
  refine ⟨by decide, by decide, by decide, by decide, by decide, by decide, by decide, by decide, by decide, by decide, by decide, by decide, by decide, by decide, ?_⟩
  exact lj_law xs L hL _ _ 0 (fun _ => 0) (fun _ => 0) (fun _ => 0) (fun _ => 0) (fun _ => 0) (fun _ => 0) (fun _ => 0) lj_wf0
end
