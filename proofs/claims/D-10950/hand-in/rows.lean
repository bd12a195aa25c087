section
/-! the pure picture: heaps a b c; the list of moves, the greatest ahead -/
def hg_ins (n : Nat) : List Nat → List Nat
  | [] => [n]
  | h :: t => bif Nat.ble h n then (bif Nat.beq h n then h :: t else n :: h :: t) else h :: hg_ins n t
def hg_root (n : Nat) : Nat → Nat → Nat
  | 0, r => r
  | f + 1, r => if n < (r + 1) * (r + 1) then r else hg_root n f (r + 1)
def hg_goldD (low apart : Nat) : Bool := decide (low ≠ (apart + hg_root (5 * apart * apart) 70 0) / 2)
def hg_gold (a b : Nat) : Bool := if b ≤ a then hg_goldD b (a - b) else hg_goldD a (b - a)
def hg_ratioD (low high : Nat) : Bool := decide (0 < low ∧ (low = high ∨ high * low + low * low < high * high))
def hg_ratio (a b : Nat) : Bool := if b ≤ a then hg_ratioD b a else hg_ratioD a b
def hg_won : Nat → Nat → Nat → Nat → Bool
  | 0, a, b, c => decide ((a ^^^ b) ^^^ c ≠ 0)
  | 1, a, b, c => decide ((a < 2 ∧ b < 2 ∧ c < 2) ↔ (a ^^^ b) ^^^ c = 0)
  | 2, a, b, c => decide (¬ (a = b ∧ b = c))
  | 3, a, _, c => decide (a ≠ c)
  | 4, a, b, _ => hg_gold a b
  | 5, a, b, _ => hg_ratio a b
  | _, a, b, c => decide (((a ^^^ b) ^^^ c) % 4 ≠ 0)
def hg_con (g : Nat) (al : Bool) (a b c : Nat) (l : List Nat) : List Nat :=
  match al with
  | true => hg_ins (a + 32 * b + 1024 * c) l
  | false => bif hg_won g a b c then l else hg_ins (a + 32 * b + 1024 * c) l
def hg_f1s (g most : Nat) (al : Bool) (a b c k : Nat) (l : List Nat) : List Nat :=
  if k % 3 = 0 then (if k / 3 + 1 ≤ a ∧ k / 3 + 1 ≤ most then hg_con g al (a - (k / 3 + 1)) b c l else l)
  else if k % 3 = 1 then (if k / 3 + 1 ≤ b ∧ k / 3 + 1 ≤ most then hg_con g al a (b - (k / 3 + 1)) c l else l)
  else if g = 4 then l
  else (if k / 3 + 1 ≤ c ∧ k / 3 + 1 ≤ most then hg_con g al a b (c - (k / 3 + 1)) l else l)
def hg_f1 (g most : Nat) (al : Bool) (a b c : Nat) : Nat → Nat → List Nat → List Nat
  | 0, _, l => l
  | n + 1, k, l => hg_f1 g most al a b c n (k + 1) (hg_f1s g most al a b c k l)
def hg_f20 (al : Bool) (a b c : Nat) : Nat → Nat → List Nat → List Nat
  | 0, _, l => l
  | n + 1, k, l => hg_f20 al a b c n (k + 1) (hg_con 2 al a (k % b) (k / b) l)
def hg_f21 (al : Bool) (a b c : Nat) : Nat → Nat → List Nat → List Nat
  | 0, _, l => l
  | n + 1, k, l => hg_f21 al a b c n (k + 1) (hg_con 2 al (k % a) b (k / a) l)
def hg_f22 (al : Bool) (a b c : Nat) : Nat → Nat → List Nat → List Nat
  | 0, _, l => l
  | n + 1, k, l => hg_f22 al a b c n (k + 1) (hg_con 2 al (k % a) (k / a) c l)
def hg_ds1 (al : Bool) (a b c t : Nat) (l : List Nat) : List Nat := if t ≤ a then hg_con 3 al (a - t) b c l else l
def hg_ds2 (al : Bool) (a b c t : Nat) (l : List Nat) : List Nat := if t ≤ b then hg_con 3 al (a + t) (b - t) c l else l
def hg_ds3 (al : Bool) (a b c t : Nat) (l : List Nat) : List Nat := if t ≤ c then hg_con 3 al a (b + t) (c - t) l else l
def hg_ds (al : Bool) (a b c : Nat) : Nat → Nat → List Nat → List Nat
  | 0, _, l => l
  | n + 1, t, l => hg_ds al a b c n (t + 1) (hg_ds3 al a b c t (hg_ds2 al a b c t (hg_ds1 al a b c t l)))
def hg_eq (al : Bool) (a b c : Nat) : Nat → Nat → List Nat → List Nat
  | 0, _, l => l
  | n + 1, t, l => if t ≤ a ∧ t ≤ b then hg_eq al a b c n (t + 1) (hg_con 4 al (a - t) (b - t) c l) else l
def hg_mu1 (al : Bool) (a b c t : Nat) (l : List Nat) : List Nat := if t * b ≤ a then hg_con 5 al (a - t * b) b c l else l
def hg_mu2 (al : Bool) (a b c t : Nat) (l : List Nat) : List Nat := if t * a ≤ b then hg_con 5 al a (b - t * a) c l else l
def hg_mu (al : Bool) (a b c : Nat) : Nat → Nat → List Nat → List Nat
  | 0, _, l => l
  | n + 1, t, l => if 0 < a ∧ 0 < b then hg_mu al a b c n (t + 1) (hg_mu2 al a b c t (hg_mu1 al a b c t l)) else l
def hg_find (g : Nat) (al : Bool) (a b c : Nat) : List Nat :=
  match g with
  | 2 => hg_f22 al a b c (a * b) 0 (hg_f21 al a b c (a * c) 0 (hg_f20 al a b c (b * c) 0 (hg_f1 2 15 al a b c 48 0 [])))
  | 3 => hg_ds al a b c 15 1 []
  | 4 => hg_eq al a b c 15 1 (hg_f1 4 15 al a b c 48 0 [])
  | 5 => hg_mu al a b c 15 1 []
  | 6 => []
  | 7 => hg_f1 7 3 al a b c 48 0 []
  | g => hg_f1 g 15 al a b c 48 0 []
/-! lengths -/
theorem hg_le_t {a b : Nat} (h : a ≤ b) : Nat.ble a b = true := by rw [Nat.ble_eq]; exact h
theorem hg_le_f {a b : Nat} (h : b < a) : Nat.ble a b = false := by
  cases e : Nat.ble a b with
  | false => rfl
  | true => rw [Nat.ble_eq] at e; omega
theorem hg_eq_f {a b : Nat} (h : a ≠ b) : Nat.beq a b = false := by
  cases e : Nat.beq a b with
  | false => rfl
  | true => rw [Nat.beq_eq] at e; exact absurd e h
theorem hg_eq_t (a : Nat) : Nat.beq a a = true := by rw [Nat.beq_eq]
theorem hg_ins_gt {n h : Nat} {t : List Nat} (z : n < h) : hg_ins n (h :: t) = h :: hg_ins n t := by
  show (bif Nat.ble h n then (bif Nat.beq h n then h :: t else n :: h :: t) else h :: hg_ins n t) = _
  rw [hg_le_f z]; rfl
theorem hg_ins_eq {n : Nat} {t : List Nat} : hg_ins n (n :: t) = n :: t := by
  show (bif Nat.ble n n then (bif Nat.beq n n then n :: t else n :: n :: t) else n :: hg_ins n t) = _
  rw [hg_le_t (Nat.le_refl n), hg_eq_t]; rfl
theorem hg_ins_lt {n h : Nat} {t : List Nat} (z : h < n) : hg_ins n (h :: t) = n :: h :: t := by
  show (bif Nat.ble h n then (bif Nat.beq h n then h :: t else n :: h :: t) else h :: hg_ins n t) = _
  rw [hg_le_t (Nat.le_of_lt z), hg_eq_f (Nat.ne_of_lt z)]; rfl
theorem hg_ins_len (n : Nat) (l : List Nat) : (hg_ins n l).length ≤ l.length + 1 := by
  induction l with
  | nil => exact Nat.le_refl _
  | cons h t ih =>
    rcases Nat.lt_trichotomy n h with z | z | z
    · rw [hg_ins_gt z, List.length_cons, List.length_cons]; omega
    · rw [z, hg_ins_eq]; omega
    · rw [hg_ins_lt z, List.length_cons]; omega
theorem hg_con_len (g : Nat) (al : Bool) (a b c : Nat) (l : List Nat) : (hg_con g al a b c l).length ≤ l.length + 1 := by
  cases al with
  | true => exact hg_ins_len _ l
  | false =>
    show (bif hg_won g a b c then l else hg_ins (a + 32 * b + 1024 * c) l).length ≤ _
    cases hg_won g a b c with
    | true => exact Nat.le_succ _
    | false => exact hg_ins_len _ l
theorem hg_f1s_len (g most : Nat) (al : Bool) (a b c k : Nat) (l : List Nat) : (hg_f1s g most al a b c k l).length ≤ l.length + 1 := by
  unfold hg_f1s
  repeat' split
  all_goals first | exact hg_con_len _ _ _ _ _ _ | exact Nat.le_succ _
theorem hg_f1_len (g most : Nat) (al : Bool) (a b c : Nat) : ∀ (n k : Nat) (l : List Nat), (hg_f1 g most al a b c n k l).length ≤ l.length + n := by
  intro n
  induction n with
  | zero => intro k l; exact Nat.le_refl _
  | succ n ih =>
    intro k l
    have h1 := ih (k + 1) (hg_f1s g most al a b c k l)
    have h2 := hg_f1s_len g most al a b c k l
    show (hg_f1 g most al a b c n (k + 1) (hg_f1s g most al a b c k l)).length ≤ _
    omega
theorem hg_f20_len (al : Bool) (a b c : Nat) : ∀ (n k : Nat) (l : List Nat), (hg_f20 al a b c n k l).length ≤ l.length + n := by
  intro n
  induction n with
  | zero => intro k l; exact Nat.le_refl _
  | succ n ih =>
    intro k l
    have h1 := ih (k + 1) (hg_con 2 al a (k % b) (k / b) l)
    have h2 := hg_con_len 2 al a (k % b) (k / b) l
    show (hg_f20 al a b c n (k + 1) (hg_con 2 al a (k % b) (k / b) l)).length ≤ _
    omega
theorem hg_f21_len (al : Bool) (a b c : Nat) : ∀ (n k : Nat) (l : List Nat), (hg_f21 al a b c n k l).length ≤ l.length + n := by
  intro n
  induction n with
  | zero => intro k l; exact Nat.le_refl _
  | succ n ih =>
    intro k l
    have h1 := ih (k + 1) (hg_con 2 al (k % a) b (k / a) l)
    have h2 := hg_con_len 2 al (k % a) b (k / a) l
    show (hg_f21 al a b c n (k + 1) (hg_con 2 al (k % a) b (k / a) l)).length ≤ _
    omega
end
section
/-! keep: the array s holds the list l, the head at the place of the tail's length -/
def hg_M : List Nat → (Nat → Int32) → Prop
  | [], _ => True
  | h :: t, s => s t.length = nI h ∧ h < 2 ^ 31 ∧ hg_M t s
def hg_S (l : List Nat) (f : Int32) (s : Nat → Int32) : Prop := f = nI l.length ∧ hg_M l s
theorem hg_M_congr {l : List Nat} {s s' : Nat → Int32} (h : hg_M l s) (e : ∀ k, k < l.length → s' k = s k) : hg_M l s' := by
  induction l with
  | nil => trivial
  | cons x t ih =>
    obtain ⟨h1, h2, h3⟩ := h
    refine ⟨?_, h2, ih h3 (fun k hk => e k ?_)⟩
    · rw [e _ (by rw [List.length_cons]; omega)]; exact h1
    · rw [List.length_cons]; omega
theorem hg_M_suf {p r : List Nat} {s : Nat → Int32} (h : hg_M (p ++ r) s) : hg_M r s := by
  induction p with
  | nil => exact h
  | cons x t ih => exact ih h.2.2
theorem hg_M_put {r : List Nat} {n : Nat} {s s' : Nat → Int32} (hn : n < 2 ^ 31) : ∀ p : List Nat, hg_M (p ++ r) s → (∀ k, k < r.length → s' k = s k) → s' r.length = nI n → (∀ k, r.length ≤ k → k < (p ++ r).length → s' (k + 1) = s k) → hg_M (p ++ n :: r) s' := by
  intro p
  induction p with
  | nil => intro h e1 e2 _; exact ⟨e2, hn, hg_M_congr h e1⟩
  | cons x t ih =>
    intro h e1 e2 e3
    obtain ⟨h1, h2, h3⟩ := h
    have q0 : (t ++ r).length = t.length + r.length := List.length_append
    have q : (t ++ n :: r).length = (t ++ r).length + 1 := by rw [List.length_append, List.length_append, List.length_cons]; omega
    have q2 : (x :: t ++ r).length = (t ++ r).length + 1 := rfl
    refine ⟨?_, h2, ih h3 e1 e2 (fun k k1 k2 => e3 k k1 (by omega))⟩
    show s' (t ++ n :: r).length = nI x
    rw [q, e3 _ (by omega) (by omega)]
    exact h1
theorem hg_k59 {post : St2 → Prop} {n w fo : Nat} {a1 a : Nat → Int32} (hf : fo < 800)
    (H : ∀ s' : Nat → Int32, (∀ k, k < w → s' k = a k) → s' w = nI n → (∀ k, w ≤ k → k < fo → s' (k + 1) = a k) → post (nI (fo + 1), a1, s')) :
    ∀ (d : Nat) (s : Nat → Int32), w + d ≤ fo → (∀ k, k < w + d → s k = a k) → (∀ k, w + d ≤ k → k < fo → s (k + 1) = a k) → wX_keep_59 post (nI n) (nI w) (nI fo) (d + 1) (nI (w + d)) a1 s := by
  intro d
  induction d with
  | zero =>
    intro s hj e1 e2
    refine pk_le w w (fun z => ⟨pk_in w 800 (by omega), nm_r (e' := upd s w (nI n)) (by rw [nI_clamp (by omega)]) (nm_r (nI_1 fo) (H _ ?_ ?_ ?_))⟩) (fun z => absurd z (by omega))
    · intro k hk
      rw [pk_un (by omega)]
      exact e1 k hk
    · exact pk_us
    · intro k k1 k2
      rw [pk_un (by omega)]
      exact e2 k k1 k2
  | succ d ih =>
    intro s hj e1 e2
    have e : nI (w + (d + 1)) - 1 = nI (w + d) := nI_pred (w + d)
    refine pk_le (w + (d + 1)) w (fun z => absurd z (by omega)) (fun _ => ⟨pk_in (w + d) 800 (by omega) e, pk_in (w + (d + 1)) 800 (by omega), nm_r (e' := upd s (w + (d + 1)) (a (w + d))) ?_ (nm_r (pk_m1 (w + d)) (ih _ (by omega) ?_ ?_))⟩)
    · rw [e, nI_clamp (show w + (d + 1) < 2 ^ 31 by omega), nI_clamp (show w + d < 2 ^ 31 by omega), e1 (w + d) (by omega)]
    · intro k hk
      rw [pk_un (by omega)]
      exact e1 k (by omega)
    · intro k k1 k2
      by_cases z : k = w + d
      · rw [z]
        exact pk_us
      · rw [pk_un (by omega)]
        exact e2 k (by omega) k2
theorem hg_k43 {post : St2 → Prop} {n : Nat} {p r : List Nat} {a1 s : Nat → Int32} (hn : n < 2 ^ 31) (hM : hg_M (p ++ r) s) (hl : (p ++ r).length < 800)
    (H : ∀ s', hg_M (p ++ n :: r) s' → post (nI (p ++ n :: r).length, a1, s')) : wX_keep_43 post (nI n) (nI r.length) (nI (p ++ r).length) a1 s := by
  have q0 : (p ++ r).length = r.length + p.length := by rw [List.length_append]; omega
  have q : (p ++ n :: r).length = (p ++ r).length + 1 := by rw [List.length_append, List.length_append, List.length_cons]; omega
  rw [q] at H
  refine pk_eq (p ++ r).length 800 (fun z => absurd z (by omega)) (fun _ => ⟨p.length + 1, ?_⟩)
  have t := hg_k59 (post := post) (n := n) (w := r.length) (fo := (p ++ r).length) (a1 := a1) (a := s) hl (fun s' e1 e2 e3 => H s' (hg_M_put hn p hM e1 e2 e3)) p.length s (by omega) (fun _ _ => rfl) (fun k k1 k2 => absurd k2 (by omega))
  rw [← q0] at t
  exact t
theorem hg_k5 {post : St2 → Prop} {n : Nat} {a1 s : Nat → Int32} (hn : n < 2 ^ 31) : ∀ (r p : List Nat), hg_M (p ++ r) s → (p ++ r).length < 800 → (∀ s', hg_M (p ++ hg_ins n r) s' → post (nI (p ++ hg_ins n r).length, a1, s')) → wX_keep_5 post (nI n) (nI (p ++ r).length) a1 s (r.length + 1) (nI r.length) := by
  intro r
  induction r with
  | nil =>
    intro p hM hl H
    exact pk_le 0 0 (fun _ => pk_le 0 0 (fun _ => hg_k43 hn hM hl H) (fun z => absurd z (by omega))) (fun z => absurd z (by omega))
  | cons h t ih =>
    intro p hM hl H
    obtain ⟨h1, h2, h3⟩ := hg_M_suf hM
    have q0 : (p ++ h :: t).length = p.length + (t.length + 1) := by rw [List.length_append, List.length_cons]
    have e0 : nI (h :: t).length - 1 = nI t.length := nI_pred t.length
    have e : s (nI (h :: t).length - 1).toNatClampNeg = nI h := by
      rw [e0, nI_clamp (by omega)]
      exact h1
    refine pk_le (t.length + 1) 0 (fun z => absurd z (by omega)) (fun _ => ⟨pk_in t.length 800 (by omega) e0, pk_le h n (fun z => ?_) (fun z => ?_) e rfl h2 hn⟩)
    · refine pk_le (t.length + 1) 0 (fun z => absurd z (by omega)) (fun _ => ⟨pk_in t.length 800 (by omega) e0, pk_eq h n (fun y => ?_) (fun y => ?_) e rfl h2 hn⟩)
      · subst y
        rw [hg_ins_eq] at H
        exact H s hM
      · rw [hg_ins_lt (show h < n by omega)] at H
        exact hg_k43 hn hM hl H
    · rw [hg_ins_gt z] at H
      have q : (p ++ [h]) ++ t = p ++ h :: t := by rw [List.append_assoc]; rfl
      have q' : (p ++ [h]) ++ hg_ins n t = p ++ h :: hg_ins n t := by rw [List.append_assoc]; rfl
      have i := ih (p ++ [h])
      rw [q, q'] at i
      exact nm_r (pk_m1 t.length) (i hM hl H)
theorem hg_keep {post : St2 → Prop} {l : List Nat} {n : Nat} {f : Int32} {a1 s : Nat → Int32} (hS : hg_S l f s) (hl : l.length < 800) (hn : n < 2 ^ 31)
    (H : ∀ f' s', hg_S (hg_ins n l) f' s' → post (f', a1, s')) : wpX_keep post (f, a1, s) (nI n) := by
  obtain ⟨rfl, hM⟩ := hS
  exact ⟨l.length + 1, hg_k5 hn l [] hM hl (fun s' h => H _ s' ⟨rfl, h⟩)⟩
end
section
/-! who wins: the walks of the methods that don't store -/
def hg_B (b : Bool) : Int32 := cond b 1 0
theorem hg_pT {post : Int32 → Prop} {b : Bool} (hp : post (hg_B b)) (h : b = true) : post 1 := by subst h; exact hp
theorem hg_pF {post : Int32 → Prop} {b : Bool} (hp : post (hg_B b)) (h : b = false) : post 0 := by subst h; exact hp
theorem hg_B1 {b : Bool} {p : Prop} [Decidable p] (e : b = decide p) (h : p) : hg_B b = 1 := by rw [e, decide_eq_true h]; rfl
theorem hg_B0 {b : Bool} {p : Prop} [Decidable p] (e : b = decide p) (h : ¬ p) : hg_B b = 0 := by rw [e, decide_eq_false h]; rfl
theorem hg_xor (a b : Nat) : nI a ^^^ nI b = nI (a ^^^ b) := Int32.toBitVec_inj.1 (BitVec.ofNat_xor (w := 32) (x := a) (y := b)).symm
theorem hg_xor3 (a b c : Nat) : (nI a ^^^ nI b) ^^^ nI c = nI ((a ^^^ b) ^^^ c) := by rw [hg_xor, hg_xor]
theorem hg_xlt {a b c : Nat} (ha : a ≤ 31) (hb : b ≤ 31) (hc : c ≤ 31) : (a ^^^ b) ^^^ c < 32 :=
  Nat.xor_lt_two_pow (n := 5) (Nat.xor_lt_two_pow (n := 5) (by omega) (by omega)) (by omega)
theorem hg_root_le (n : Nat) : ∀ f r : Nat, hg_root n f r ≤ r + f := by
  intro f
  induction f with
  | zero => intro r; exact Nat.le_refl _
  | succ f ih =>
    intro r
    have h := ih (r + 1)
    show (if n < (r + 1) * (r + 1) then r else hg_root n f (r + 1)) ≤ _
    split <;> omega
theorem hg_root_w {post : Int32 → Prop} {n : Nat} {f0 : Int32} {a1 a2 : Nat → Int32} (hn : n < 5000) : ∀ (f r : Nat), r + f ≤ 100 → n < (r + f + 1) * (r + f + 1) → post (nI (hg_root n f r)) → wX_rootOf_2 post (nI n) f0 a1 a2 (f + 1) (nI r) := by
  intro f
  induction f with
  | zero =>
    intro r hr hf hp
    have hf' : n < (r + 1) * (r + 1) := hf
    have b : (r + 1) * (r + 1) ≤ 101 * 101 := Nat.mul_le_mul (by omega) (by omega)
    exact pk_lt n ((r + 1) * (r + 1)) (fun _ => hp) (fun z => absurd z (by omega)) rfl (by rw [nI_1, pk_mul]) (by omega) (by omega)
  | succ f ih =>
    intro r hr hf hp
    have b : (r + 1) * (r + 1) ≤ 101 * 101 := Nat.mul_le_mul (by omega) (by omega)
    have q : r + (f + 1) + 1 = r + 1 + f + 1 := by omega
    rw [q] at hf
    refine pk_lt n ((r + 1) * (r + 1)) (fun z => ?_) (fun z => nm_r (nI_1 r) (ih (r + 1) (by omega) hf ?_)) rfl (by rw [nI_1, pk_mul]) (by omega) (by omega)
    · have e : hg_root n (f + 1) r = r := if_pos z
      rw [e] at hp
      exact hp
    · have e : hg_root n (f + 1) r = hg_root n f (r + 1) := if_neg (by omega)
      rw [e] at hp
      exact hp
theorem hg_gold25 {post : Int32 → Prop} {low ap : Nat} {f : Int32} {a1 a2 : Nat → Int32} (hl : low ≤ 31) (ha : ap ≤ 31) (hp : post (hg_B (hg_goldD low ap))) : wX_wonGolden_25 post (nI low) (nI ap) f a1 a2 := by
  unfold wX_wonGolden_25
  have e : ((5 : Int32) * nI ap) * nI ap = nI (5 * ap * ap) := by rw [show (5 : Int32) = nI 5 from rfl, pk_mul, pk_mul]
  rw [e]
  have b : 5 * ap * ap ≤ 5 * 31 * 31 := Nat.mul_le_mul (by omega) ha
  have b2 := hg_root_le (5 * ap * ap) 70 0
  refine ⟨71, hg_root_w (by omega) 70 0 (by omega) (by omega) ⟨by decide, ?_⟩⟩
  refine pk_eq low ((ap + hg_root (5 * ap * ap) 70 0) / 2) (fun z => hg_pF hp (decide_eq_false (fun w => w z))) (fun z => hg_pT hp (decide_eq_true z)) rfl ?_ (by omega) (by omega)
  rw [nI_add]
  exact pk_div (d := 2) (by omega) (by omega) (by omega)
theorem hg_golden {post : Int32 → Prop} {a b : Nat} {f : Int32} {a1 a2 : Nat → Int32} (ha : a ≤ 31) (hb : b ≤ 31) (hp : post (hg_B (hg_gold a b))) : wpX_wonGolden post (f, a1, a2) (nI a) (nI b) := by
  refine pk_le b a (fun z => ?_) (fun z => ?_)
  · have q : hg_gold a b = hg_goldD b (a - b) := if_pos z
    rw [q] at hp
    refine br_t (nI_le z (by omega)) ?_
    rw [pk_sub z]
    exact hg_gold25 hb (by omega) hp
  · have q : hg_gold a b = hg_goldD a (b - a) := if_neg (by omega)
    rw [q] at hp
    refine br_f (nI_ge z (by omega)) ?_
    rw [pk_sub (Nat.le_of_lt z)]
    exact hg_gold25 ha (by omega) hp
theorem hg_ratio21 {post : Int32 → Prop} {low high : Nat} {f : Int32} {a1 a2 : Nat → Int32} (hl : low ≤ 31) (hh : high ≤ 31) (hp : post (hg_B (hg_ratioD low high))) : wX_wonRatio_21 post (nI low) (nI high) f a1 a2 := by
  have b1 : high * high ≤ 31 * 31 := Nat.mul_le_mul hh hh
  have b2 : high * low ≤ 31 * 31 := Nat.mul_le_mul hh hl
  have b3 : low * low ≤ 31 * 31 := Nat.mul_le_mul hl hl
  exact pk_le low 0 (fun z => hg_pF hp (decide_eq_false (fun w => absurd w.1 (by omega)))) (fun z =>
    pk_eq low high (fun y => hg_pT hp (decide_eq_true ⟨z, Or.inl y⟩)) (fun y =>
      pk_le (high * high) (high * low + low * low) (fun x => hg_pF hp (decide_eq_false (fun w => w.2.elim y (fun v => absurd v (by omega))))) (fun x => hg_pT hp (decide_eq_true ⟨z, Or.inr x⟩)) (pk_mul _ _) (by rw [pk_mul, pk_mul, nI_add]) (by omega) (by omega)))
theorem hg_ratioW {post : Int32 → Prop} {a b : Nat} {f : Int32} {a1 a2 : Nat → Int32} (ha : a ≤ 31) (hb : b ≤ 31) (hp : post (hg_B (hg_ratio a b))) : wpX_wonRatio post (f, a1, a2) (nI a) (nI b) := by
  refine pk_le b a (fun z => ?_) (fun z => ?_)
  · have q : hg_ratio a b = hg_ratioD b a := if_pos z
    rw [q] at hp
    exact br_t (nI_le z (by omega)) (hg_ratio21 hb ha hp)
  · have q : hg_ratio a b = hg_ratioD a b := if_neg (by omega)
    rw [q] at hp
    exact br_f (nI_ge z (by omega)) (hg_ratio21 ha hb hp)
theorem hg_wl20 {post : Int32 → Prop} {a b c : Nat} {f z : Int32} {a1 a2 : Nat → Int32} (S : Prop) (hz : (S ∧ z = 1) ∨ (¬ S ∧ z = 0)) (hX : (a ^^^ b) ^^^ c < 32)
    (ht : (S ↔ (a ^^^ b) ^^^ c = 0) → post 1) (hf : ¬ (S ↔ (a ^^^ b) ^^^ c = 0) → post 0) : wX_wonLast_20 post (nI a) (nI b) (nI c) z f a1 a2 := by
  refine pk_eq ((a ^^^ b) ^^^ c) 0 (fun e => ?_) (fun e => ?_) (hg_xor3 a b c) rfl (by omega) (by omega)
  · rcases hz with ⟨s, rfl⟩ | ⟨s, rfl⟩
    · exact br_t rfl (ht ⟨fun _ => e, fun _ => s⟩)
    · exact br_f (by decide) (hf (fun q => s (q.mpr e)))
  · rcases hz with ⟨s, rfl⟩ | ⟨s, rfl⟩
    · exact br_f (by decide) (hf (fun q => e (q.mp s)))
    · exact br_t rfl (ht ⟨fun q => absurd q s, fun q => absurd q e⟩)
theorem hg_wonLast {post : Int32 → Prop} {a b c : Nat} {f : Int32} {a1 a2 : Nat → Int32} (ha : a ≤ 31) (hb : b ≤ 31) (hc : c ≤ 31) (hp : post (hg_B (hg_won 1 a b c))) : wpX_wonLast post (f, a1, a2) (nI a) (nI b) (nI c) := by
  have hX := hg_xlt ha hb hc
  have ht : ((a < 2 ∧ b < 2 ∧ c < 2) ↔ (a ^^^ b) ^^^ c = 0) → post 1 := fun h => hg_pT hp (decide_eq_true h)
  have hf : ¬ ((a < 2 ∧ b < 2 ∧ c < 2) ↔ (a ^^^ b) ^^^ c = 0) → post 0 := fun h => hg_pF hp (decide_eq_false h)
  have no : ¬ (a < 2 ∧ b < 2 ∧ c < 2) → wX_wonLast_20 post (nI a) (nI b) (nI c) 0 f a1 a2 := fun h => hg_wl20 _ (Or.inr ⟨h, rfl⟩) hX ht hf
  exact pk_le 2 a (fun z => no (fun w => absurd w.1 (by omega))) (fun z1 => pk_le 2 b (fun z => no (fun w => absurd w.2.1 (by omega))) (fun z2 => pk_le 2 c (fun z => no (fun w => absurd w.2.2 (by omega))) (fun z3 => hg_wl20 _ (Or.inl ⟨⟨z1, z2, z3⟩, rfl⟩) hX ht hf)))
theorem hg_nar {post : Int32 → Prop} (b : Bool) (hp : post (hg_B b)) : narrow .boolean (.int (hg_B b)) = .int (hg_B b) ∧ post (hg_B b) := by
  cases b with
  | true => exact ⟨narrow_b1, hp⟩
  | false => exact ⟨narrow_b0, hp⟩
theorem hg_lt8 {P : Nat → Prop} (h0 : P 0) (h1 : P 1) (h2 : P 2) (h3 : P 3) (h4 : P 4) (h5 : P 5) (h6 : P 6) (h7 : P 7) {g : Nat} (hg : g < 8) : P g := by
  have : g = 0 ∨ g = 1 ∨ g = 2 ∨ g = 3 ∨ g = 4 ∨ g = 5 ∨ g = 6 ∨ g = 7 := by omega
  rcases this with rfl | rfl | rfl | rfl | rfl | rfl | rfl | rfl
  · exact h0
  · exact h1
  · exact h2
  · exact h3
  · exact h4
  · exact h5
  · exact h6
  · exact h7
theorem hg_isWon {post : Int32 → Prop} {a b c : Nat} {f : Int32} {a1 a2 : Nat → Int32} (ha : a ≤ 31) (hb : b ≤ 31) (hc : c ≤ 31) {g : Nat} (hg : g < 8) : post (hg_B (hg_won g a b c)) → wpX_isWon post (f, a1, a2) (nI g) (nI a) (nI b) (nI c) := by
  have hX := hg_xlt ha hb hc
  have last : post (hg_B (decide (((a ^^^ b) ^^^ c) % 4 ≠ 0))) → (((nI a ^^^ nI b) ^^^ nI c) &&& 3 = 0 → post 0) ∧ (¬ ((nI a ^^^ nI b) ^^^ nI c) &&& 3 = 0 → post 1) := fun hp =>
    pk_eq (((a ^^^ b) ^^^ c) % 4) 0 (fun z => hg_pF hp (decide_eq_false (fun w => w z))) (fun z => hg_pT hp (decide_eq_true z)) (by rw [hg_xor3]; exact pk_andN (by omega) 2 (by decide)) rfl (by omega) (by omega)
  refine hg_lt8 (P := fun g => post (hg_B (hg_won g a b c)) → wpX_isWon post (f, a1, a2) (nI g) (nI a) (nI b) (nI c)) ?_ ?_ ?_ ?_ ?_ ?_ ?_ ?_ hg <;> intro hp
  · exact br_t rfl (pk_eq ((a ^^^ b) ^^^ c) 0 (fun z => hg_pF hp (decide_eq_false (fun w => w z))) (fun z => hg_pT hp (decide_eq_true z)) (hg_xor3 a b c) rfl (by omega) (by omega))
  · exact br_f (by decide) (br_t rfl (hg_wonLast ha hb hc (hg_nar _ hp)))
  · exact br_f (by decide) (br_f (by decide) (br_t rfl (pk_eq a b (fun z => pk_eq b c (fun y => hg_pF hp (decide_eq_false (fun w => w ⟨z, y⟩))) (fun y => hg_pT hp (decide_eq_true (fun w => y w.2)))) (fun z => hg_pT hp (decide_eq_true (fun w => z w.1))))))
  · exact br_f (by decide) (br_f (by decide) (br_f (by decide) (br_t rfl (pk_eq a c (fun z => hg_pF hp (decide_eq_false (fun w => w z))) (fun z => hg_pT hp (decide_eq_true z))))))
  · exact br_f (by decide) (br_f (by decide) (br_f (by decide) (br_f (by decide) (br_t rfl (hg_golden ha hb (hg_nar _ hp))))))
  · exact br_f (by decide) (br_f (by decide) (br_f (by decide) (br_f (by decide) (br_f (by decide) (br_t rfl (hg_ratioW ha hb (hg_nar _ hp)))))))
  · exact br_f (by decide) (br_f (by decide) (br_f (by decide) (br_f (by decide) (br_f (by decide) (br_f (by decide) (last hp))))))
  · exact br_f (by decide) (br_f (by decide) (br_f (by decide) (br_f (by decide) (br_f (by decide) (br_f (by decide) (last hp))))))
/-! game 6, where no move is there -/
theorem hg_lp14 {post : Int32 → Prop} {J : Int32 → Int32 → Prop} {left : Nat} {f : Int32} {a1 a2 : Nat → Int32} (hl : left ≤ 60) (HJ : ∀ one, 1 ≤ one → one ≤ left → J (nI (left - one)) (nI one)) :
    ∀ (d one other : Nat), 1 ≤ one → one ≤ left → 1 ≤ other → other ≤ 200 → left < other + d → wX_leastPart_14 post J (nI left) f a1 a2 (d + 1) (nI one) (nI other) := by
  intro d
  induction d with
  | zero =>
    intro one other h1 h2 h3 h4 h5
    exact pk_lt left other (fun _ => nm_r (pk_sub h2) (HJ one h1 h2)) (fun z => absurd z (by omega))
  | succ d ih =>
    intro one other h1 h2 h3 h4 h5
    exact pk_lt left other (fun _ => nm_r (pk_sub h2) (HJ one h1 h2)) (fun z => nm_r (nI_add one other) (ih other (one + other) h3 z (by omega) (by omega) (by omega)))
theorem hg_lp4 {post : Int32 → Prop} {f : Int32} {a1 a2 : Nat → Int32} (HP : ∀ r, 1 ≤ r → r ≤ 60 → post (nI r)) :
    ∀ (d left part : Nat), left ≤ d → left ≤ 60 → (left = 0 → 1 ≤ part ∧ part ≤ 60) → wX_leastPart_4 post f a1 a2 (d + 1) (nI left) (nI part) := by
  intro d
  induction d with
  | zero =>
    intro left part h1 h2 h3
    exact pk_le left 0 (fun z => HP part (h3 (by omega)).1 (h3 (by omega)).2) (fun z => absurd z (by omega))
  | succ d ih =>
    intro left part h1 h2 h3
    exact pk_le left 0 (fun z => HP part (h3 (by omega)).1 (h3 (by omega)).2) (fun z => ⟨61, hg_lp14 h2 (fun one o1 o2 => ih (left - one) one (by omega) (by omega) (fun _ => ⟨o1, by omega⟩)) 60 1 2 (by omega) (by omega) (by omega) (by omega) (by omega)⟩)
theorem hg_ww0 {post : Int32 → Prop} {n c : Nat} {x : Int32} {f : Int32} {a1 a2 : Nat → Int32} (hn : n ≤ 60) (hx : x = nI c) (hc : c ≤ 15) (h : n = 0 ∨ c = 0) (hp : post 0) : wpX_wonWith post (f, a1, a2) (nI n) x := by
  subst hx
  by_cases z : n = 0
  · subst z
    exact ⟨1, pk_le 0 0 (fun _ => pk_le 0 0 (fun _ => hp) (fun y => absurd y (by omega))) (fun y => absurd y (by omega))⟩
  · exact ⟨n + 1, hg_lp4 (fun r r1 r2 => pk_le n 0 (fun y => absurd y (by omega)) (fun _ => pk_lt c r (fun _ => hp) (fun y => absurd y (by omega)))) n n 0 (by omega) hn (fun y => absurd y z)⟩
/-! the heaps -/
def hg_H (a1 : Nat → Int32) (a b c : Nat) : Prop := a1 0 = nI a ∧ a1 1 = nI b ∧ a1 2 = nI c ∧ a ≤ 15 ∧ b ≤ 15 ∧ c ≤ 15
theorem hg_single {post : Int32 → Prop} {a b c : Nat} {f : Int32} {a1 a2 : Nat → Int32} (H : hg_H a1 a b c) (hp : post (nI (min (a + 16 * b) 60))) : wpX_single post (f, a1, a2) := by
  obtain ⟨h0, h1, h2, ha, hb, hc⟩ := H
  refine nm_r (e' := nI (a + 16 * b)) (by rw [h0, h1, show (16 : Int32) = nI 16 from rfl, pk_mul, nI_add]) (pk_le (a + 16 * b) 60 (fun z => ?_) (fun z => ?_))
  · rw [Nat.min_eq_left z] at hp; exact hp
  · rw [Nat.min_eq_right (Nat.le_of_lt z)] at hp; exact hp
theorem hg_bg {post : Int32 → Prop} {g : Nat} {u : St2} (hg : g < 8) (hp : post 0) : wpX_badGame post u (nI g) := by
  obtain ⟨f, a1, a2⟩ := u
  exact br_f (nI_pos (by omega)) (pk_le g 7 (fun _ => hp) (fun z => absurd z (by omega)))
theorem hg_bgB {post : Int32 → Prop} {x : Int32} {u : St2} (h : x < 0 ∨ ¬ x ≤ 7) (hp : post 1) : wpX_badGame post u x := by
  obtain ⟨f, a1, a2⟩ := u
  exact br_c (fun _ => hp) (fun z => br_f (h.resolve_left z) hp)
theorem hg_bh {post : Int32 → Prop} {g : Nat} {u : St2} (hg : g < 3) (hp : post 0) : wpX_badHeap post u (nI g) := by
  obtain ⟨f, a1, a2⟩ := u
  exact br_f (nI_pos (by omega)) (pk_le g 2 (fun _ => hp) (fun z => absurd z (by omega)))
theorem hg_bhB {post : Int32 → Prop} {x : Int32} {u : St2} (h : x < 0 ∨ ¬ x ≤ 2) (hp : post 1) : wpX_badHeap post u x := by
  obtain ⟨f, a1, a2⟩ := u
  exact br_c (fun _ => hp) (fun z => br_f (h.resolve_left z) hp)
def hg_wonS (g a b c : Nat) : Bool := if g = 6 then false else hg_won g a b c
theorem hg_won56 {post : Int32 → Prop} {f : Int32} {a1 a2 : Nat → Int32} (b : Bool) (hp : post (hg_B b)) : wX_won_56 post (hg_B b) f a1 a2 := by
  cases b with
  | true => exact br_f (by decide) hp
  | false => exact br_t rfl hp
theorem hg_wonW {post : Int32 → Prop} {a b c g : Nat} {f : Int32} {a1 a2 : Nat → Int32} (hg : g < 8) (H : hg_H a1 a b c) (h6 : g = 6 → a + 16 * b = 0 ∨ c = 0) (hp : post (hg_B (hg_wonS g a b c))) : wpX_won post (f, a1, a2) (nI g) := by
  by_cases z : g = 6
  · have h6' := h6 z
    subst z
    obtain ⟨h0, h1, h2, ha, hb, hc⟩ := id H
    unfold wpX_won
    refine hg_bg (by omega) (br_t rfl (br_t rfl ?_))
    refine hg_single H ?_
    exact hg_ww0 (by omega) h2 hc (by omega) (hg_won56 false hp)
  · have q : hg_wonS g a b c = hg_won g a b c := if_neg z
    rw [q] at hp
    unfold wpX_won
    refine hg_bg hg (br_t rfl (pk_eq g 6 (fun y => absurd y z) (fun _ => ?_)))
    obtain ⟨h0, h1, h2, ha, hb, hc⟩ := H
    rw [h0, h1, h2]
    exact hg_isWon (by omega) (by omega) (by omega) hg (hg_won56 _ hp)
theorem hg_wonB {post : Int32 → Prop} {x : Int32} {f : Int32} {a1 a2 : Nat → Int32} (h : x < 0 ∨ ¬ x ≤ 7) (hp : post (-1)) : wpX_won post (f, a1, a2) x := by
  unfold wpX_won
  exact hg_bgB h (br_f (by decide) hp)
theorem hg_has {post : Int32 → Prop} {i : Nat} {f : Int32} {a1 a2 : Nat → Int32} (hi : i < 3) (hp : post (a1 i)) : wpX_has post (f, a1, a2) (nI i) := by
  unfold wpX_has
  exact hg_bh hi (br_t rfl ⟨pk_in i 3 hi, by rw [nI_clamp (by omega)]; exact hp⟩)
theorem hg_hasB {post : Int32 → Prop} {x : Int32} {f : Int32} {a1 a2 : Nat → Int32} (h : x < 0 ∨ ¬ x ≤ 2) (hp : post (-1)) : wpX_has post (f, a1, a2) x := by
  unfold wpX_has
  exact hg_bhB h (br_f (by decide) hp)
theorem hg_heap {post : Int32 → St2 → Prop} {i n : Nat} {f : Int32} {a1 a2 : Nat → Int32} (hi : i < 3) (hn : n < 16) (hp : post (a1 i) (f, upd a1 i (nI n), a2)) : wpX_heap post (f, a1, a2) (nI i) (nI n) := by
  have e : (nI i).toNatClampNeg = i := nI_clamp (by omega)
  unfold wpX_heap
  exact hg_bh hi (br_t rfl (br_f (nI_pos (by omega)) (pk_le n 15 (fun _ => ⟨pk_in i 3 hi, nm_r (by rw [e]) ⟨pk_in i 3 hi, nm_r (by rw [e]) hp⟩⟩) (fun z => absurd z (by omega)))))
theorem hg_heapB {post : Int32 → St2 → Prop} {x y : Int32} {f : Int32} {a1 a2 : Nat → Int32} (h : (x < 0 ∨ ¬ x ≤ 2) ∨ ((∃ i, i < 3 ∧ x = nI i) ∧ (y < 0 ∨ ¬ y ≤ 15))) (hp : post (-1) (f, a1, a2)) : wpX_heap post (f, a1, a2) x y := by
  unfold wpX_heap
  rcases h with h | ⟨⟨i, hi, rfl⟩, h⟩
  · exact hg_bhB h (br_f (by decide) hp)
  · exact hg_bh hi (br_t rfl (br_c (fun _ => hp) (fun z => br_f (h.resolve_left z) hp)))
theorem hg_value0 {post : Int32 → Prop} {a b c : Nat} {f : Int32} {a1 a2 : Nat → Int32} (H : hg_H a1 a b c) (hp : post (nI ((a ^^^ b) ^^^ c))) : wpX_value post (f, a1, a2) 0 := by
  obtain ⟨h0, h1, h2, ha, hb, hc⟩ := H
  exact br_t rfl (nm_r (by rw [h0, h1, h2, hg_xor3]) (br_t rfl hp))
theorem hg_value7 {post : Int32 → Prop} {a b c : Nat} {f : Int32} {a1 a2 : Nat → Int32} (H : hg_H a1 a b c) (hp : post (nI (((a ^^^ b) ^^^ c) % 4))) : wpX_value post (f, a1, a2) 7 := by
  obtain ⟨h0, h1, h2, ha, hb, hc⟩ := H
  have hX := hg_xlt (show a ≤ 31 by omega) (show b ≤ 31 by omega) (show c ≤ 31 by omega)
  have e : nI ((a ^^^ b) ^^^ c) &&& 3 = nI (((a ^^^ b) ^^^ c) % 4) := pk_andN (by omega) 2 (by decide)
  rw [← e] at hp
  exact br_f (by decide) (br_t rfl (nm_r (by rw [h0, h1, h2, hg_xor3]) (br_f (by decide) hp)))
theorem hg_valueB {post : Int32 → Prop} {x : Int32} {f : Int32} {a1 a2 : Nat → Int32} (h0 : ¬ x = 0) (h7 : ¬ x = 7) (hp : post (-1)) : wpX_value post (f, a1, a2) x := br_f h0 (br_f h7 hp)
end
section
/-! moves: the walks of the loops -/
theorem hg_c17 {post : St2 → Prop} {a b c : Nat} {l : List Nat} {f p1 p2 p3 : Int32} {a1 s : Nat → Int32} (ha : a ≤ 31) (hb : b ≤ 31) (hc : c ≤ 31) (hS : hg_S l f s) (hl : l.length < 800)
    (e1 : p1 = nI a) (e2 : p2 = nI b) (e3 : p3 = nI c) (H : ∀ f' s', hg_S (hg_ins (a + 32 * b + 1024 * c) l) f' s' → post (f', a1, s')) : wX_consider_17 post p1 p2 p3 f a1 s := by
  unfold wX_consider_17
  subst e1 e2 e3
  rw [show (32 : Int32) = nI 32 from rfl, show (1024 : Int32) = nI 1024 from rfl, pk_mul, pk_mul, nI_add, nI_add]
  exact hg_keep hS hl (by omega) H
theorem hg_consider {post : St2 → Prop} {g a b c : Nat} {al : Bool} {l : List Nat} {f p1 p2 p3 : Int32} {a1 s : Nat → Int32} (hg : g < 8) (ha : a ≤ 31) (hb : b ≤ 31) (hc : c ≤ 31) (hS : hg_S l f s) (hl : l.length < 800)
    (e1 : p1 = nI a) (e2 : p2 = nI b) (e3 : p3 = nI c) (H : ∀ f' s', hg_S (hg_con g al a b c l) f' s' → post (f', a1, s')) : wpX_consider post (f, a1, s) (nI g) p1 p2 p3 (hg_B al) := by
  cases al with
  | true => exact br_f (by decide) (hg_c17 ha hb hc hS hl e1 e2 e3 H)
  | false =>
    refine br_t rfl ?_
    have q : hg_con g false a b c l = (bif hg_won g a b c then l else hg_ins (a + 32 * b + 1024 * c) l) := rfl
    rw [q] at H
    rw [e1, e2, e3]
    refine hg_isWon ha hb hc hg ?_
    cases v : hg_won g a b c with
    | true =>
      rw [v] at H
      exact br_f (by decide) (H f s hS)
    | false =>
      rw [v] at H
      exact br_t rfl (hg_c17 ha hb hc hS hl rfl rfl rfl H)
theorem hg_m0 (x : Int32) : x - 0 = x := Int32.sub_zero x
/-! fromOne -/
theorem hg_f1_40_0 {post : St2 → Prop} {J : Int32 → Int32 → (Nat → Int32) → (Nat → Int32) → Prop} {g most a b c k : Nat} {al : Bool} {l : List Nat} {f : Int32} {a1 s : Nat → Int32} (hg : g < 8) (hm : most ≤ 15) (hk : k < 48) (H : hg_H a1 a b c) (hS : hg_S l f s) (hl : l.length < 800)
    (HJ : ∀ f' s', hg_S (if k / 3 + 1 ≤ a ∧ k / 3 + 1 ≤ most then hg_con g al (a - (k / 3 + 1)) b c l else l) f' s' → J (nI (k + 1)) f' a1 s') : wX_fromOne_40 post J (nI g) (nI most) (hg_B al) (nI k) (nI 0) (nI (k / 3 + 1)) 1 f a1 s := by
  obtain ⟨h0, h1, h2, ha, hb, hc⟩ := H
  have e : a1 (nI 0).toNatClampNeg = nI a := by
    rw [nI_clamp (by omega)]
    exact h0
  refine br_f (by decide) ⟨pk_in 0 3 (by omega), pk_lt a (k / 3 + 1) (fun z => nm_r (nI_1 k) (HJ f s (by rw [if_neg (by omega)]; exact hS))) (fun z => pk_lt most (k / 3 + 1) (fun y => nm_r (nI_1 k) (HJ f s (by rw [if_neg (by omega)]; exact hS))) (fun y => ?_)) e rfl (by omega) (by omega)⟩
  rw [if_pos ⟨z, y⟩] at HJ
  exact br_t rfl (br_f (by decide) (br_f (by decide) (hg_consider hg (by omega) (by omega) (by omega) hS hl (by rw [h0, pk_sub z]) (by rw [h1, hg_m0]) (by rw [h2, hg_m0]) (fun f' s' h => nm_r (nI_1 k) (HJ f' s' h)))))
theorem hg_f1_40_1 {post : St2 → Prop} {J : Int32 → Int32 → (Nat → Int32) → (Nat → Int32) → Prop} {g most a b c k : Nat} {al : Bool} {l : List Nat} {f : Int32} {a1 s : Nat → Int32} (hg : g < 8) (hm : most ≤ 15) (hk : k < 48) (H : hg_H a1 a b c) (hS : hg_S l f s) (hl : l.length < 800)
    (HJ : ∀ f' s', hg_S (if k / 3 + 1 ≤ b ∧ k / 3 + 1 ≤ most then hg_con g al a (b - (k / 3 + 1)) c l else l) f' s' → J (nI (k + 1)) f' a1 s') : wX_fromOne_40 post J (nI g) (nI most) (hg_B al) (nI k) (nI 1) (nI (k / 3 + 1)) 1 f a1 s := by
  obtain ⟨h0, h1, h2, ha, hb, hc⟩ := H
  have e : a1 (nI 1).toNatClampNeg = nI b := by
    rw [nI_clamp (by omega)]
    exact h1
  refine br_f (by decide) ⟨pk_in 1 3 (by omega), pk_lt b (k / 3 + 1) (fun z => nm_r (nI_1 k) (HJ f s (by rw [if_neg (by omega)]; exact hS))) (fun z => pk_lt most (k / 3 + 1) (fun y => nm_r (nI_1 k) (HJ f s (by rw [if_neg (by omega)]; exact hS))) (fun y => ?_)) e rfl (by omega) (by omega)⟩
  rw [if_pos ⟨z, y⟩] at HJ
  exact br_f (by decide) (br_t rfl (br_f (by decide) (hg_consider hg (by omega) (by omega) (by omega) hS hl (by rw [h0, hg_m0]) (by rw [h1, pk_sub z]) (by rw [h2, hg_m0]) (fun f' s' h => nm_r (nI_1 k) (HJ f' s' h)))))
theorem hg_f1_40_2 {post : St2 → Prop} {J : Int32 → Int32 → (Nat → Int32) → (Nat → Int32) → Prop} {g most a b c k : Nat} {al : Bool} {l : List Nat} {f : Int32} {a1 s : Nat → Int32} (hg : g < 8) (hm : most ≤ 15) (hk : k < 48) (H : hg_H a1 a b c) (hS : hg_S l f s) (hl : l.length < 800)
    (HJ : ∀ f' s', hg_S (if k / 3 + 1 ≤ c ∧ k / 3 + 1 ≤ most then hg_con g al a b (c - (k / 3 + 1)) l else l) f' s' → J (nI (k + 1)) f' a1 s') : wX_fromOne_40 post J (nI g) (nI most) (hg_B al) (nI k) (nI 2) (nI (k / 3 + 1)) 1 f a1 s := by
  obtain ⟨h0, h1, h2, ha, hb, hc⟩ := H
  have e : a1 (nI 2).toNatClampNeg = nI c := by
    rw [nI_clamp (by omega)]
    exact h2
  refine br_f (by decide) ⟨pk_in 2 3 (by omega), pk_lt c (k / 3 + 1) (fun z => nm_r (nI_1 k) (HJ f s (by rw [if_neg (by omega)]; exact hS))) (fun z => pk_lt most (k / 3 + 1) (fun y => nm_r (nI_1 k) (HJ f s (by rw [if_neg (by omega)]; exact hS))) (fun y => ?_)) e rfl (by omega) (by omega)⟩
  rw [if_pos ⟨z, y⟩] at HJ
  exact br_f (by decide) (br_f (by decide) (br_t rfl (hg_consider hg (by omega) (by omega) (by omega) hS hl (by rw [h0, hg_m0]) (by rw [h1, hg_m0]) (by rw [h2, pk_sub z]) (fun f' s' h => nm_r (nI_1 k) (HJ f' s' h)))))
theorem hg_f1W {post : St2 → Prop} {g most a b c : Nat} {al : Bool} {a1 : Nat → Int32} (hg : g < 8) (hm : most ≤ 15) (H : hg_H a1 a b c) : ∀ (n k : Nat) (l : List Nat) (f : Int32) (s : Nat → Int32), k + n = 48 → hg_S l f s → l.length + n ≤ 799 →
    (∀ f' s', hg_S (hg_f1 g most al a b c n k l) f' s' → post (f', a1, s')) → wX_fromOne_3 post (nI g) (nI most) (hg_B al) (n + 1) (nI k) f a1 s := by
  intro n
  induction n with
  | zero =>
    intro k l f s hk hS hl Hp
    exact pk_le 48 k (fun _ => Hp f s hS) (fun z => absurd z (by omega))
  | succ n ih =>
    intro k l f s hk hS hl Hp
    have ll := hg_f1s_len g most al a b c k l
    have HJ : ∀ f' s', hg_S (hg_f1s g most al a b c k l) f' s' → wX_fromOne_3 post (nI g) (nI most) (hg_B al) (n + 1) (nI (k + 1)) f' a1 s' := fun f' s' h => ih (k + 1) _ f' s' (by omega) h (by omega) Hp
    refine pk_le 48 k (fun z => absurd z (by omega)) (fun _ => ⟨by decide, nm_r (pk_rem (a := k) (d := 3) (by omega) (by omega) (by omega)) ⟨by decide, nm_r (e' := nI (k / 3 + 1)) ?_ ?_⟩⟩)
    · rw [show (3 : Int32) = nI 3 from rfl, pk_div (by omega) (by omega) (by omega), nI_1]
    · have m : k % 3 = 0 ∨ k % 3 = 1 ∨ k % 3 = 2 := by omega
      rcases m with m | m | m
      · have q : hg_f1s g most al a b c k l = (if k / 3 + 1 ≤ a ∧ k / 3 + 1 ≤ most then hg_con g al (a - (k / 3 + 1)) b c l else l) := by
          unfold hg_f1s; rw [if_pos m]
        rw [q] at HJ
        rw [m]
        exact br_t (by decide) (hg_f1_40_0 hg hm (by omega) H hS (by omega) HJ)
      · have q : hg_f1s g most al a b c k l = (if k / 3 + 1 ≤ b ∧ k / 3 + 1 ≤ most then hg_con g al a (b - (k / 3 + 1)) c l else l) := by
          unfold hg_f1s; rw [if_neg (by omega), if_pos m]
        rw [q] at HJ
        rw [m]
        exact br_t (by decide) (hg_f1_40_1 hg hm (by omega) H hS (by omega) HJ)
      · rw [m]
        refine br_f (by decide) (pk_eq g 4 (fun y => ?_) (fun y => ?_))
        · have q : hg_f1s g most al a b c k l = l := by
            unfold hg_f1s; rw [if_neg (by omega), if_neg (by omega), if_pos y]
          rw [q] at HJ
          exact br_t rfl (nm_r (nI_1 k) (HJ f s hS))
        · have q : hg_f1s g most al a b c k l = (if k / 3 + 1 ≤ c ∧ k / 3 + 1 ≤ most then hg_con g al a b (c - (k / 3 + 1)) l else l) := by
            unfold hg_f1s; rw [if_neg (by omega), if_neg (by omega), if_neg y]
          rw [q] at HJ
          exact hg_f1_40_2 hg hm (by omega) H hS (by omega) HJ
theorem hg_fromOne {post : St2 → Prop} {g most a b c : Nat} {al : Bool} {l : List Nat} {f : Int32} {a1 s : Nat → Int32} (hg : g < 8) (hm : most ≤ 15) (H : hg_H a1 a b c) (hS : hg_S l f s) (hl : l.length ≤ 0)
    (Hp : ∀ f' s', hg_S (hg_f1 g most al a b c 48 0 l) f' s' → post (f', a1, s')) : wpX_fromOne post (f, a1, s) (nI g) (nI most) (hg_B al) :=
  ⟨49, hg_f1W hg hm H 48 0 l f s (by omega) hS (by omega) Hp⟩
/-! fromTwo -/
theorem hg_f2W0 {post : St2 → Prop} {a b c T : Nat} {al : Bool} {a1 : Nat → Int32} (H : hg_H a1 a b c) (hT : b * c = T) : ∀ (n k : Nat) (l : List Nat) (f : Int32) (s : Nat → Int32), k + n = T → hg_S l f s → l.length + n ≤ 799 →
    (∀ f' s', hg_S (hg_f20 al a b c n k l) f' s' → post (f', a1, s')) → wX_fromTwo_25 post (hg_B al) 1 2 (n + 1) (nI k) f a1 s := by
  obtain ⟨h0, h1, h2, ha, hb, hc⟩ := H
  have bT : b * c ≤ 15 * 15 := Nat.mul_le_mul hb hc
  have ei : a1 ((1 : Int32).toNatClampNeg) = nI b := h1
  have ej : a1 ((2 : Int32).toNatClampNeg) = nI c := h2
  intro n
  induction n with
  | zero =>
    intro k l f s hk hS hl Hp
    exact ⟨pk_in 1 3 (by omega), pk_in 2 3 (by omega), pk_le T k (fun _ => Hp f s hS) (fun z => absurd z (by omega)) (by rw [ei, ej, pk_mul, hT]) rfl (by omega) (by omega)⟩
  | succ n ih =>
    intro k l f s hk hS hl Hp
    have kT : k < b * c := by omega
    have p0 : 0 < b := by
      rcases Nat.eq_zero_or_pos b with z | z
      · rw [z, Nat.zero_mul] at kT; omega
      · exact z
    have d1 : k / b < c := Nat.div_lt_of_lt_mul kT
    have d2 : k % b < b := Nat.mod_lt _ p0
    have ll := hg_con_len 2 al a (k % b) (k / b) l
    have HJ : ∀ f' s', hg_S (hg_con 2 al a (k % b) (k / b) l) f' s' → wX_fromTwo_25 post (hg_B al) 1 2 (n + 1) (nI (k + 1)) f' a1 s' := fun f' s' h => ih (k + 1) _ f' s' (by omega) h (by omega) Hp
    have ne : ¬ a1 ((1 : Int32).toNatClampNeg) = 0 := by
      rw [ei]
      exact nI_ne0 p0 (by omega)
    refine ⟨pk_in 1 3 (by omega), pk_in 2 3 (by omega), pk_le T k (fun z => absurd z (by omega)) (fun _ => ⟨pk_in 1 3 (by omega), ne, nm_r (e' := nI (k % b)) ?_ ⟨pk_in 1 3 (by omega), ne, nm_r (e' := nI (k / b)) ?_ ?_⟩⟩) (by rw [ei, ej, pk_mul, hT]) rfl (by omega) (by omega)⟩
    · rw [ei]
      exact pk_rem (by omega) p0 (by omega)
    · rw [ei]
      exact pk_div (by omega) p0 (by omega)
    · exact br_f (by decide) (br_t rfl (br_t rfl (hg_consider (g := 2) (by omega) (by omega) (by omega) (by omega) hS (by omega) h0 rfl rfl (fun f' s' h => nm_r (nI_1 k) (HJ f' s' h)))))
theorem hg_f2W1 {post : St2 → Prop} {a b c T : Nat} {al : Bool} {a1 : Nat → Int32} (H : hg_H a1 a b c) (hT : a * c = T) : ∀ (n k : Nat) (l : List Nat) (f : Int32) (s : Nat → Int32), k + n = T → hg_S l f s → l.length + n ≤ 799 →
    (∀ f' s', hg_S (hg_f21 al a b c n k l) f' s' → post (f', a1, s')) → wX_fromTwo_25 post (hg_B al) 0 2 (n + 1) (nI k) f a1 s := by
  obtain ⟨h0, h1, h2, ha, hb, hc⟩ := H
  have bT : a * c ≤ 15 * 15 := Nat.mul_le_mul ha hc
  have ei : a1 ((0 : Int32).toNatClampNeg) = nI a := h0
  have ej : a1 ((2 : Int32).toNatClampNeg) = nI c := h2
  intro n
  induction n with
  | zero =>
    intro k l f s hk hS hl Hp
    exact ⟨pk_in 0 3 (by omega), pk_in 2 3 (by omega), pk_le T k (fun _ => Hp f s hS) (fun z => absurd z (by omega)) (by rw [ei, ej, pk_mul, hT]) rfl (by omega) (by omega)⟩
  | succ n ih =>
    intro k l f s hk hS hl Hp
    have kT : k < a * c := by omega
    have p0 : 0 < a := by
      rcases Nat.eq_zero_or_pos a with z | z
      · rw [z, Nat.zero_mul] at kT; omega
      · exact z
    have d1 : k / a < c := Nat.div_lt_of_lt_mul kT
    have d2 : k % a < a := Nat.mod_lt _ p0
    have ll := hg_con_len 2 al (k % a) b (k / a) l
    have HJ : ∀ f' s', hg_S (hg_con 2 al (k % a) b (k / a) l) f' s' → wX_fromTwo_25 post (hg_B al) 0 2 (n + 1) (nI (k + 1)) f' a1 s' := fun f' s' h => ih (k + 1) _ f' s' (by omega) h (by omega) Hp
    have ne : ¬ a1 ((0 : Int32).toNatClampNeg) = 0 := by
      rw [ei]
      exact nI_ne0 p0 (by omega)
    refine ⟨pk_in 0 3 (by omega), pk_in 2 3 (by omega), pk_le T k (fun z => absurd z (by omega)) (fun _ => ⟨pk_in 0 3 (by omega), ne, nm_r (e' := nI (k % a)) ?_ ⟨pk_in 0 3 (by omega), ne, nm_r (e' := nI (k / a)) ?_ ?_⟩⟩) (by rw [ei, ej, pk_mul, hT]) rfl (by omega) (by omega)⟩
    · rw [ei]
      exact pk_rem (by omega) p0 (by omega)
    · rw [ei]
      exact pk_div (by omega) p0 (by omega)
    · exact br_t rfl (br_f (by decide) (br_f (by decide) (br_t rfl (hg_consider (g := 2) (by omega) (by omega) (by omega) (by omega) hS (by omega) rfl h1 rfl (fun f' s' h => nm_r (nI_1 k) (HJ f' s' h))))))
theorem hg_f2W2 {post : St2 → Prop} {a b c T : Nat} {al : Bool} {a1 : Nat → Int32} (H : hg_H a1 a b c) (hT : a * b = T) : ∀ (n k : Nat) (l : List Nat) (f : Int32) (s : Nat → Int32), k + n = T → hg_S l f s → l.length + n ≤ 799 →
    (∀ f' s', hg_S (hg_f22 al a b c n k l) f' s' → post (f', a1, s')) → wX_fromTwo_25 post (hg_B al) 0 1 (n + 1) (nI k) f a1 s := by
  obtain ⟨h0, h1, h2, ha, hb, hc⟩ := H
  have bT : a * b ≤ 15 * 15 := Nat.mul_le_mul ha hb
  have ei : a1 ((0 : Int32).toNatClampNeg) = nI a := h0
  have ej : a1 ((1 : Int32).toNatClampNeg) = nI b := h1
  intro n
  induction n with
  | zero =>
    intro k l f s hk hS hl Hp
    exact ⟨pk_in 0 3 (by omega), pk_in 1 3 (by omega), pk_le T k (fun _ => Hp f s hS) (fun z => absurd z (by omega)) (by rw [ei, ej, pk_mul, hT]) rfl (by omega) (by omega)⟩
  | succ n ih =>
    intro k l f s hk hS hl Hp
    have kT : k < a * b := by omega
    have p0 : 0 < a := by
      rcases Nat.eq_zero_or_pos a with z | z
      · rw [z, Nat.zero_mul] at kT; omega
      · exact z
    have d1 : k / a < b := Nat.div_lt_of_lt_mul kT
    have d2 : k % a < a := Nat.mod_lt _ p0
    have ll := hg_con_len 2 al (k % a) (k / a) c l
    have HJ : ∀ f' s', hg_S (hg_con 2 al (k % a) (k / a) c l) f' s' → wX_fromTwo_25 post (hg_B al) 0 1 (n + 1) (nI (k + 1)) f' a1 s' := fun f' s' h => ih (k + 1) _ f' s' (by omega) h (by omega) Hp
    have ne : ¬ a1 ((0 : Int32).toNatClampNeg) = 0 := by
      rw [ei]
      exact nI_ne0 p0 (by omega)
    refine ⟨pk_in 0 3 (by omega), pk_in 1 3 (by omega), pk_le T k (fun z => absurd z (by omega)) (fun _ => ⟨pk_in 0 3 (by omega), ne, nm_r (e' := nI (k % a)) ?_ ⟨pk_in 0 3 (by omega), ne, nm_r (e' := nI (k / a)) ?_ ?_⟩⟩) (by rw [ei, ej, pk_mul, hT]) rfl (by omega) (by omega)⟩
    · rw [ei]
      exact pk_rem (by omega) p0 (by omega)
    · rw [ei]
      exact pk_div (by omega) p0 (by omega)
    · exact br_t rfl (br_f (by decide) (br_t rfl (br_f (by decide) (hg_consider (g := 2) (by omega) (by omega) (by omega) (by omega) hS (by omega) rfl rfl h2 (fun f' s' h => nm_r (nI_1 k) (HJ f' s' h))))))
theorem hg_ft0 {post : St2 → Prop} {a b c : Nat} {al : Bool} {l : List Nat} {f : Int32} {a1 s : Nat → Int32} (H : hg_H a1 a b c) (hS : hg_S l f s) (hl : l.length + b * c ≤ 799)
    (Hp : ∀ f' s', hg_S (hg_f20 al a b c (b * c) 0 l) f' s' → post (f', a1, s')) : wpX_fromTwo post (f, a1, s) 0 (hg_B al) :=
  br_t rfl (br_f (by decide) ⟨b * c + 1, hg_f2W0 H rfl (b * c) 0 l f s (by omega) hS hl Hp⟩)
theorem hg_ft1 {post : St2 → Prop} {a b c : Nat} {al : Bool} {l : List Nat} {f : Int32} {a1 s : Nat → Int32} (H : hg_H a1 a b c) (hS : hg_S l f s) (hl : l.length + a * c ≤ 799)
    (Hp : ∀ f' s', hg_S (hg_f21 al a b c (a * c) 0 l) f' s' → post (f', a1, s')) : wpX_fromTwo post (f, a1, s) 1 (hg_B al) :=
  br_f (by decide) (br_f (by decide) ⟨a * c + 1, hg_f2W1 H rfl (a * c) 0 l f s (by omega) hS hl Hp⟩)
theorem hg_ft2 {post : St2 → Prop} {a b c : Nat} {al : Bool} {l : List Nat} {f : Int32} {a1 s : Nat → Int32} (H : hg_H a1 a b c) (hS : hg_S l f s) (hl : l.length + a * b ≤ 799)
    (Hp : ∀ f' s', hg_S (hg_f22 al a b c (a * b) 0 l) f' s' → post (f', a1, s')) : wpX_fromTwo post (f, a1, s) 2 (hg_B al) :=
  br_f (by decide) (br_t rfl ⟨a * b + 1, hg_f2W2 H rfl (a * b) 0 l f s (by omega) hS hl Hp⟩)
/-! downStairs -/
theorem hg_dsl1 (al : Bool) (a b c t : Nat) (l : List Nat) : (hg_ds1 al a b c t l).length ≤ l.length + 1 := by
  unfold hg_ds1
  split
  · exact hg_con_len _ _ _ _ _ _
  · exact Nat.le_succ _
theorem hg_dsl2 (al : Bool) (a b c t : Nat) (l : List Nat) : (hg_ds2 al a b c t l).length ≤ l.length + 1 := by
  unfold hg_ds2
  split
  · exact hg_con_len _ _ _ _ _ _
  · exact Nat.le_succ _
theorem hg_dsl3 (al : Bool) (a b c t : Nat) (l : List Nat) : (hg_ds3 al a b c t l).length ≤ l.length + 1 := by
  unfold hg_ds3
  split
  · exact hg_con_len _ _ _ _ _ _
  · exact Nat.le_succ _
theorem hg_d82 {post : St2 → Prop} {J : Int32 → Int32 → (Nat → Int32) → (Nat → Int32) → Prop} {a b c t : Nat} {al : Bool} {l : List Nat} {f : Int32} {a1 s : Nat → Int32} (ht : t ≤ 15) (H : hg_H a1 a b c) (hS : hg_S l f s) (hl : l.length < 800)
    (HJ : ∀ f' s', hg_S (hg_ds3 al a b c t l) f' s' → J (nI (t + 1)) f' a1 s') : wX_downStairs_82 post J (hg_B al) (nI t) f a1 s := by
  obtain ⟨h0, h1, h2, ha, hb, hc⟩ := H
  refine pk_lt c t (fun z => nm_r (nI_1 t) (HJ f s ?_)) (fun z => ?_) h2 rfl (by omega) (by omega)
  · unfold hg_ds3
    rw [if_neg (by omega)]
    exact hS
  · have q : hg_ds3 al a b c t l = hg_con 3 al a (b + t) (c - t) l := if_pos z
    rw [q] at HJ
    exact hg_consider (g := 3) (by omega) (by omega) (by omega) (by omega) hS hl h0 (by rw [h1, nI_add]) (by rw [h2, pk_sub z]) (fun f' s' h => nm_r (nI_1 t) (HJ f' s' h))
theorem hg_d44 {post : St2 → Prop} {J : Int32 → Int32 → (Nat → Int32) → (Nat → Int32) → Prop} {a b c t : Nat} {al : Bool} {l : List Nat} {f : Int32} {a1 s : Nat → Int32} (ht : t ≤ 15) (H : hg_H a1 a b c) (hS : hg_S l f s) (hl : l.length < 799)
    (HJ : ∀ f' s', hg_S (hg_ds3 al a b c t (hg_ds2 al a b c t l)) f' s' → J (nI (t + 1)) f' a1 s') : wX_downStairs_44 post J (hg_B al) (nI t) f a1 s := by
  have ll := hg_dsl2 al a b c t l
  obtain ⟨h0, h1, h2, ha, hb, hc⟩ := id H
  refine pk_lt b t (fun z => ?_) (fun z => ?_) h1 rfl (by omega) (by omega)
  · have q : hg_ds2 al a b c t l = l := if_neg (by omega)
    rw [q] at HJ
    exact hg_d82 ht H hS (by omega) HJ
  · have q : hg_ds2 al a b c t l = hg_con 3 al (a + t) (b - t) c l := if_pos z
    rw [q] at HJ ll
    exact hg_consider (g := 3) (by omega) (by omega) (by omega) (by omega) hS (by omega) (by rw [h0, nI_add]) (by rw [h1, pk_sub z]) h2 (fun f' s' h => hg_d82 ht H h (by omega) HJ)
theorem hg_dsW {post : St2 → Prop} {a b c : Nat} {al : Bool} {a1 : Nat → Int32} (H : hg_H a1 a b c) : ∀ (n t : Nat) (l : List Nat) (f : Int32) (s : Nat → Int32), t + n = 16 → hg_S l f s → l.length + 3 * n ≤ 790 →
    (∀ f' s', hg_S (hg_ds al a b c n t l) f' s' → post (f', a1, s')) → wX_downStairs_2 post (hg_B al) (n + 1) (nI t) f a1 s := by
  intro n
  induction n with
  | zero =>
    intro t l f s ht hS hl Hp
    exact pk_lt 15 t (fun _ => Hp f s hS) (fun z => absurd z (by omega))
  | succ n ih =>
    intro t l f s ht hS hl Hp
    have l1 := hg_dsl1 al a b c t l
    have l2 := hg_dsl2 al a b c t (hg_ds1 al a b c t l)
    have l3 := hg_dsl3 al a b c t (hg_ds2 al a b c t (hg_ds1 al a b c t l))
    have HJ : ∀ f' s', hg_S (hg_ds3 al a b c t (hg_ds2 al a b c t (hg_ds1 al a b c t l))) f' s' → wX_downStairs_2 post (hg_B al) (n + 1) (nI (t + 1)) f' a1 s' := fun f' s' h => ih (t + 1) _ f' s' (by omega) h (by omega) Hp
    obtain ⟨h0, h1, h2, ha, hb, hc⟩ := id H
    refine pk_lt 15 t (fun z => absurd z (by omega)) (fun _ => pk_lt a t (fun z => ?_) (fun z => ?_) h0 rfl (by omega) (by omega))
    · have q : hg_ds1 al a b c t l = l := if_neg (by omega)
      rw [q] at HJ
      exact hg_d44 (by omega) H hS (by omega) HJ
    · have q : hg_ds1 al a b c t l = hg_con 3 al (a - t) b c l := if_pos z
      rw [q] at HJ l1
      exact hg_consider (g := 3) (by omega) (by omega) (by omega) (by omega) hS (by omega) (by rw [h0, pk_sub z]) h1 h2 (fun f' s' h => hg_d44 (by omega) H h (by omega) HJ)
/-! equallyMany -/
theorem hg_eqW {post : St2 → Prop} {a b c : Nat} {al : Bool} {a1 : Nat → Int32} (H : hg_H a1 a b c) : ∀ (n t : Nat) (l : List Nat) (f : Int32) (s : Nat → Int32), t + n = 16 → hg_S l f s → l.length + n ≤ 790 →
    (∀ f' s', hg_S (hg_eq al a b c n t l) f' s' → post (f', a1, s')) → wX_equallyMany_2 post (hg_B al) (n + 1) (nI t) f a1 s := by
  obtain ⟨h0, h1, h2, ha, hb, hc⟩ := H
  intro n
  induction n with
  | zero =>
    intro t l f s ht hS hl Hp
    exact pk_lt a t (fun _ => Hp f s hS) (fun z => absurd z (by omega)) h0 rfl (by omega) (by omega)
  | succ n ih =>
    intro t l f s ht hS hl Hp
    have ll := hg_con_len 4 al (a - t) (b - t) c l
    refine pk_lt a t (fun z => ?_) (fun z => pk_lt b t (fun y => ?_) (fun y => ?_) h1 rfl (by omega) (by omega)) h0 rfl (by omega) (by omega)
    · have q : hg_eq al a b c (n + 1) t l = l := if_neg (by omega)
      rw [q] at Hp
      exact Hp f s hS
    · have q : hg_eq al a b c (n + 1) t l = l := if_neg (by omega)
      rw [q] at Hp
      exact Hp f s hS
    · have q : hg_eq al a b c (n + 1) t l = hg_eq al a b c n (t + 1) (hg_con 4 al (a - t) (b - t) c l) := if_pos ⟨z, y⟩
      rw [q] at Hp
      exact hg_consider (g := 4) (by omega) (by omega) (by omega) (by omega) hS (by omega) (by rw [h0, pk_sub z]) (by rw [h1, pk_sub y]) h2 (fun f' s' h => nm_r (nI_1 t) (ih (t + 1) _ f' s' (by omega) h (by omega) Hp))
/-! multiples -/
theorem hg_mul1 (al : Bool) (a b c t : Nat) (l : List Nat) : (hg_mu1 al a b c t l).length ≤ l.length + 1 := by
  unfold hg_mu1
  split
  · exact hg_con_len _ _ _ _ _ _
  · exact Nat.le_succ _
theorem hg_mul2 (al : Bool) (a b c t : Nat) (l : List Nat) : (hg_mu2 al a b c t l).length ≤ l.length + 1 := by
  unfold hg_mu2
  split
  · exact hg_con_len _ _ _ _ _ _
  · exact Nat.le_succ _
theorem hg_m59 {post : St2 → Prop} {J : Int32 → Int32 → (Nat → Int32) → (Nat → Int32) → Prop} {a b c t : Nat} {al : Bool} {l : List Nat} {f : Int32} {a1 s : Nat → Int32} (ht : t ≤ 15) (H : hg_H a1 a b c) (hS : hg_S l f s) (hl : l.length < 800)
    (HJ : ∀ f' s', hg_S (hg_mu2 al a b c t l) f' s' → J (nI (t + 1)) f' a1 s') : wX_multiples_59 post J (hg_B al) (nI a) (nI b) (nI t) f a1 s := by
  obtain ⟨h0, h1, h2, ha, hb, hc⟩ := H
  have bt : t * a ≤ 15 * 15 := Nat.mul_le_mul ht ha
  refine pk_lt b (t * a) (fun z => nm_r (nI_1 t) (HJ f s ?_)) (fun z => ?_) rfl (pk_mul t a) (by omega) (by omega)
  · unfold hg_mu2
    rw [if_neg (by omega)]
    exact hS
  · have q : hg_mu2 al a b c t l = hg_con 5 al a (b - t * a) c l := if_pos z
    rw [q] at HJ
    exact hg_consider (g := 5) (by omega) (by omega) (by omega) (by omega) hS hl rfl (by rw [pk_mul, pk_sub z]) h2 (fun f' s' h => nm_r (nI_1 t) (HJ f' s' h))
theorem hg_muW {post : St2 → Prop} {a b c : Nat} {al : Bool} {a1 : Nat → Int32} (H : hg_H a1 a b c) : ∀ (n t : Nat) (l : List Nat) (f : Int32) (s : Nat → Int32), t + n = 16 → hg_S l f s → l.length + 2 * n ≤ 790 →
    (∀ f' s', hg_S (hg_mu al a b c n t l) f' s' → post (f', a1, s')) → wX_multiples_17 post (hg_B al) (nI a) (nI b) (n + 1) (nI t) f a1 s := by
  intro n
  induction n with
  | zero =>
    intro t l f s ht hS hl Hp
    exact pk_lt 15 t (fun _ => Hp f s hS) (fun z => absurd z (by omega))
  | succ n ih =>
    intro t l f s ht hS hl Hp
    have l1 := hg_mul1 al a b c t l
    have l2 := hg_mul2 al a b c t (hg_mu1 al a b c t l)
    obtain ⟨h0, h1, h2, ha, hb, hc⟩ := id H
    have bt : t * b ≤ 15 * 15 := Nat.mul_le_mul (by omega) hb
    refine pk_lt 15 t (fun z => absurd z (by omega)) (fun _ => pk_le a 0 (fun z => ?_) (fun z => pk_le b 0 (fun y => ?_) (fun y => ?_)))
    · have q : hg_mu al a b c (n + 1) t l = l := if_neg (by omega)
      rw [q] at Hp
      exact Hp f s hS
    · have q : hg_mu al a b c (n + 1) t l = l := if_neg (by omega)
      rw [q] at Hp
      exact Hp f s hS
    · have q : hg_mu al a b c (n + 1) t l = hg_mu al a b c n (t + 1) (hg_mu2 al a b c t (hg_mu1 al a b c t l)) := if_pos ⟨z, y⟩
      rw [q] at Hp
      have HJ : ∀ f' s', hg_S (hg_mu2 al a b c t (hg_mu1 al a b c t l)) f' s' → wX_multiples_17 post (hg_B al) (nI a) (nI b) (n + 1) (nI (t + 1)) f' a1 s' := fun f' s' h => ih (t + 1) _ f' s' (by omega) h (by omega) Hp
      refine pk_lt a (t * b) (fun x => ?_) (fun x => ?_) rfl (pk_mul t b) (by omega) (by omega)
      · have q : hg_mu1 al a b c t l = l := if_neg (by omega)
        rw [q] at HJ
        exact hg_m59 (by omega) H hS (by omega) HJ
      · have q : hg_mu1 al a b c t l = hg_con 5 al (a - t * b) b c l := if_pos x
        rw [q] at HJ l1
        exact hg_consider (g := 5) (by omega) (by omega) (by omega) (by omega) hS (by omega) (by rw [pk_mul, pk_sub x]) rfl h2 (fun f' s' h => hg_m59 (by omega) H h (by omega) HJ)
/-! findMoves -/
theorem hg_63n {post : St2 → Prop} {x1 x2 f : Int32} {a1 s : Nat → Int32} (h2 : ¬ x1 = 2) (h4 : ¬ x1 = 4) (hp : post (f, a1, s)) : wX_findMoves_63 post x1 x2 f a1 s := br_f h2 (br_f h4 hp)
theorem hg_S0 {s : Nat → Int32} : hg_S [] 0 s := ⟨rfl, trivial⟩
theorem hg_findW {post : St2 → Prop} {a b c : Nat} {al : Bool} {f : Int32} {a1 s : Nat → Int32} (H : hg_H a1 a b c) {g : Nat} (hg : g < 8) : (g = 6 → a + 16 * b = 0 ∨ c = 0) → (∀ f' s', hg_S (hg_find g al a b c) f' s' → post (f', a1, s')) → wpX_findMoves post (f, a1, s) (nI g) (hg_B al) := by
  refine hg_lt8 (P := fun g => (g = 6 → a + 16 * b = 0 ∨ c = 0) → (∀ f' s', hg_S (hg_find g al a b c) f' s' → post (f', a1, s')) → wpX_findMoves post (f, a1, s) (nI g) (hg_B al)) ?_ ?_ ?_ ?_ ?_ ?_ ?_ ?_ hg <;> intro h6 Hp
  · exact br_f (by decide) (br_f (by decide) (br_f (by decide) (br_f (by decide) (hg_fromOne (g := 0) (most := 15) (by omega) (by omega) H hg_S0 (by decide) (fun f' s' h => hg_63n (by decide) (by decide) (Hp f' s' h))))))
  · exact br_f (by decide) (br_f (by decide) (br_f (by decide) (br_f (by decide) (hg_fromOne (g := 1) (most := 15) (by omega) (by omega) H hg_S0 (by decide) (fun f' s' h => hg_63n (by decide) (by decide) (Hp f' s' h))))))
  · have m0 : b * c ≤ 15 * 15 := Nat.mul_le_mul H.2.2.2.2.1 H.2.2.2.2.2
    have m1 : a * c ≤ 15 * 15 := Nat.mul_le_mul H.2.2.2.1 H.2.2.2.2.2
    have m2 : a * b ≤ 15 * 15 := Nat.mul_le_mul H.2.2.2.1 H.2.2.2.2.1
    have n0 := hg_f1_len 2 15 al a b c 48 0 []
    have n1 := hg_f20_len al a b c (b * c) 0 (hg_f1 2 15 al a b c 48 0 [])
    have n2 := hg_f21_len al a b c (a * c) 0 (hg_f20 al a b c (b * c) 0 (hg_f1 2 15 al a b c 48 0 []))
    rw [List.length_nil] at n0
    exact br_f (by decide) (br_f (by decide) (br_f (by decide) (br_f (by decide) (hg_fromOne (g := 2) (most := 15) (by omega) (by omega) H hg_S0 (by decide) (fun f' s' h => br_t rfl
      (hg_ft0 H h (by omega) (fun f' s' h => hg_ft1 H h (by omega) (fun f' s' h => hg_ft2 H h (by omega) (fun f' s' h => br_f (by decide) (Hp f' s' h))))))))))
  · exact br_t rfl ⟨16, hg_dsW H 15 1 [] 0 s (by omega) hg_S0 (by decide) (fun f' s' h => hg_63n (by decide) (by decide) (Hp f' s' h))⟩
  · have n0 := hg_f1_len 4 15 al a b c 48 0 []
    rw [List.length_nil] at n0
    exact br_f (by decide) (br_f (by decide) (br_f (by decide) (br_f (by decide) (hg_fromOne (g := 4) (most := 15) (by omega) (by omega) H hg_S0 (by decide) (fun f' s' h => br_f (by decide) (br_t rfl ⟨16, hg_eqW H 15 1 _ f' s' (by omega) h (by omega) Hp⟩))))))
  · exact br_f (by decide) (br_t rfl (nm_r H.1 (nm_r H.2.1 ⟨16, hg_muW H 15 1 [] 0 s (by omega) hg_S0 (by decide) (fun f' s' h => hg_63n (by decide) (by decide) (Hp f' s' h))⟩)))
  · have h6' := h6 rfl
    have hp : wX_findMoves_63 post (nI 6) (hg_B al) 0 a1 s := hg_63n (by decide) (by decide) (Hp 0 s hg_S0)
    obtain ⟨h0, h1, h2, ha, hb, hc⟩ := id H
    refine br_f (by decide) (br_f (by decide) (br_t rfl ?_))
    unfold wpX_fromSingle
    exact hg_single H ⟨1, pk_lt (min (a + 16 * b) 60) 1 (fun _ => hp) (fun z => pk_lt c 1 (fun _ => hp) (fun y => absurd y (by omega)) h2 rfl (by omega) (by omega)) rfl rfl (by omega) (by omega)⟩
  · exact br_f (by decide) (br_f (by decide) (br_f (by decide) (br_t rfl (hg_fromOne (g := 7) (most := 3) (by omega) (by omega) H hg_S0 (by decide) (fun f' s' h => hg_63n (by decide) (by decide) (Hp f' s' h))))))
end
section
/-! the calls of the law -/
theorem hg_moves {post : Int32 → St2 → Prop} {a b c g : Nat} {f : Int32} {a1 s : Nat → Int32} (hg : g < 8) (H : hg_H a1 a b c) (h6 : g = 6 → a + 16 * b = 0 ∨ c = 0)
    (Hp : ∀ f' s', post (nI (hg_find g true a b c).length) (f', a1, s')) : wpX_moves post (f, a1, s) (nI g) := by
  unfold wpX_moves
  refine hg_bg hg (br_t rfl ?_)
  refine hg_findW (al := true) H hg h6 (fun f' s' h => ?_)
  obtain ⟨rfl, _⟩ := h
  exact Hp _ s'
theorem hg_movesB {post : Int32 → St2 → Prop} {x : Int32} {f : Int32} {a1 s : Nat → Int32} (h : x < 0 ∨ ¬ x ≤ 7) (hp : post (-1) (f, a1, s)) : wpX_moves post (f, a1, s) x := by
  unfold wpX_moves
  exact hg_bgB h (br_f (by decide) hp)
theorem hg_winning {post : Int32 → St2 → Prop} {a b c g : Nat} {f : Int32} {a1 s : Nat → Int32} (hg : g < 8) (H : hg_H a1 a b c) (h6 : g = 6 → a + 16 * b = 0 ∨ c = 0)
    (Hp : ∀ f' s', post (nI (hg_find g false a b c).length) (f', a1, s')) : wpX_winning post (f, a1, s) (nI g) := by
  unfold wpX_winning
  refine hg_bg hg (br_t rfl ?_)
  refine hg_findW (al := false) H hg h6 (fun f' s' h => ?_)
  obtain ⟨rfl, _⟩ := h
  exact Hp _ s'
theorem hg_winningB {post : Int32 → St2 → Prop} {x : Int32} {f : Int32} {a1 s : Nat → Int32} (h : x < 0 ∨ ¬ x ≤ 7) (hp : post (-1) (f, a1, s)) : wpX_winning post (f, a1, s) x := by
  unfold wpX_winning
  exact hg_bgB h (br_f (by decide) hp)
theorem hg_n1 {x : Int32} (h : ¬ x = 0) (h0 : ¬ x < 0) : ¬ x < nI 1 := by
  obtain ⟨j, hj, rfl⟩ := nI_of h0
  refine nI_nlt ?_ hj
  rcases Nat.eq_zero_or_pos j with z | z
  · exact absurd (by rw [z]; rfl) h
  · exact z
/-- no winning move -/
theorem hg_wmE {post : Int32 → St2 → Prop} {a b c g : Nat} {x f : Int32} {a1 s : Nat → Int32} (hg : g < 8) (H : hg_H a1 a b c) (h6 : g = 6 → a + 16 * b = 0 ∨ c = 0) (e : hg_find g false a b c = [])
    (Hp : ∀ f' s', post (-4) (f', a1, s')) : wpX_winningMove post (f, a1, s) (nI g) x := by
  unfold wpX_winningMove
  refine hg_bg hg (br_t rfl ?_)
  refine hg_findW (al := false) H hg h6 (fun f' s' h => ?_)
  rw [e] at h
  obtain ⟨rfl, _⟩ := h
  exact br_c (fun _ => Hp _ s') (fun z => br_f z (Hp _ s'))
/-- one winning move, not asked for -/
theorem hg_wmO {post : Int32 → St2 → Prop} {a b c g v : Nat} {x f : Int32} {a1 s : Nat → Int32} (hg : g < 8) (H : hg_H a1 a b c) (h6 : g = 6 → a + 16 * b = 0 ∨ c = 0) (e : hg_find g false a b c = [v]) (hx : ¬ x = 0)
    (Hp : ∀ f' s', post (-4) (f', a1, s')) : wpX_winningMove post (f, a1, s) (nI g) x := by
  unfold wpX_winningMove
  refine hg_bg hg (br_t rfl ?_)
  refine hg_findW (al := false) H hg h6 (fun f' s' h => ?_)
  rw [e] at h
  obtain ⟨rfl, _⟩ := h
  exact br_c (fun _ => Hp _ s') (fun z => br_f (hg_n1 hx z) (Hp _ s'))
/-- one winning move, asked for -/
theorem hg_wm1 {post : Int32 → St2 → Prop} {a b c g v : Nat} {f : Int32} {a1 s : Nat → Int32} (hg : g < 8) (H : hg_H a1 a b c) (h6 : g = 6 → a + 16 * b = 0 ∨ c = 0) (e : hg_find g false a b c = [v])
    (Hp : ∀ f' s', post (nI v) (f', a1, s')) : wpX_winningMove post (f, a1, s) (nI g) 0 := by
  unfold wpX_winningMove
  refine hg_bg hg (br_t rfl ?_)
  refine hg_findW (al := false) H hg h6 (fun f' s' h => ?_)
  rw [e] at h
  obtain ⟨rfl, h1, _⟩ := h
  have h1' : s' ((0 : Int32).toNatClampNeg) = nI v := h1
  refine br_f (by decide) (br_t (show (0 : Int32) < nI 1 by decide) ⟨pk_in 0 800 (by omega), ?_⟩)
  rw [h1']
  exact Hp _ s'
theorem hg_wmB {post : Int32 → St2 → Prop} {x y : Int32} {f : Int32} {a1 s : Nat → Int32} (h : x < 0 ∨ ¬ x ≤ 7) (hp : post (-1) (f, a1, s)) : wpX_winningMove post (f, a1, s) x y := by
  unfold wpX_winningMove
  exact hg_bgB h (br_f (by decide) hp)
/-! play -/
theorem hg_plB {post : Int32 → St2 → Prop} {x y : Int32} {f : Int32} {a1 s : Nat → Int32} (h : x < 0 ∨ ¬ x ≤ 7) (hp : post (-1) (f, a1, s)) : wpX_play post (f, a1, s) x y := by
  unfold wpX_play
  exact hg_bgB h (br_f (by decide) hp)
theorem hg_pl3 {post : Int32 → St2 → Prop} {y : Int32} {f : Int32} {a1 s : Nat → Int32} (hp : post (-1) (f, a1, s)) : wpX_play post (f, a1, s) (nI 3) y := by
  unfold wpX_play
  exact hg_bg (by omega) (br_t rfl (br_t rfl hp))
theorem hg_pl6 {post : Int32 → St2 → Prop} {y : Int32} {f : Int32} {a1 s : Nat → Int32} (hp : post (-1) (f, a1, s)) : wpX_play post (f, a1, s) (nI 6) y := by
  unfold wpX_play
  exact hg_bg (by omega) (br_t rfl (br_f (by decide) (br_t rfl hp)))
theorem hg_plE {post : Int32 → St2 → Prop} {a b c g : Nat} {x f : Int32} {a1 s : Nat → Int32} (hg : g < 8) (g3 : g ≠ 3) (g6 : g ≠ 6) (H : hg_H a1 a b c) (e : hg_find g false a b c = [])
    (Hp : ∀ f' s', post (-4) (f', a1, s')) : wpX_play post (f, a1, s) (nI g) x := by
  unfold wpX_play
  refine hg_bg hg (br_t rfl (pk_eq g 3 (fun z => absurd z g3) (fun _ => pk_eq g 6 (fun z => absurd z g6) (fun _ => ?_))))
  refine hg_findW (al := false) H hg (fun z => absurd z g6) (fun f' s' h => ?_)
  rw [e] at h
  obtain ⟨rfl, _⟩ := h
  exact br_c (fun _ => Hp _ s') (fun z => br_f z (Hp _ s'))
theorem hg_plO {post : Int32 → St2 → Prop} {a b c g v : Nat} {x f : Int32} {a1 s : Nat → Int32} (hg : g < 8) (g3 : g ≠ 3) (g6 : g ≠ 6) (H : hg_H a1 a b c) (e : hg_find g false a b c = [v]) (hx : ¬ x = 0)
    (Hp : ∀ f' s', post (-4) (f', a1, s')) : wpX_play post (f, a1, s) (nI g) x := by
  unfold wpX_play
  refine hg_bg hg (br_t rfl (pk_eq g 3 (fun z => absurd z g3) (fun _ => pk_eq g 6 (fun z => absurd z g6) (fun _ => ?_))))
  refine hg_findW (al := false) H hg (fun z => absurd z g6) (fun f' s' h => ?_)
  rw [e] at h
  obtain ⟨rfl, _⟩ := h
  exact br_c (fun _ => Hp _ s') (fun z => br_f (hg_n1 hx z) (Hp _ s'))
theorem hg_pl1 {post : Int32 → St2 → Prop} {a b c g v p q r : Nat} {f : Int32} {a1 s : Nat → Int32} (hg : g < 8) (g3 : g ≠ 3) (g6 : g ≠ 6) (H : hg_H a1 a b c) (e : hg_find g false a b c = [v])
    (ep : v % 32 = p) (eq : v / 32 % 32 = q) (er : v / 1024 = r) (hp : p ≤ 15) (hq : q ≤ 15) (hr : r ≤ 15)
    (Hp : ∀ f' a1' s', hg_H a1' p q r → post (hg_B (hg_wonS g p q r)) (f', a1', s')) : wpX_play post (f, a1, s) (nI g) 0 := by
  unfold wpX_play
  refine hg_bg hg (br_t rfl (pk_eq g 3 (fun z => absurd z g3) (fun _ => pk_eq g 6 (fun z => absurd z g6) (fun _ => ?_))))
  refine hg_findW (al := false) H hg (fun z => absurd z g6) (fun f' s' h => ?_)
  rw [e] at h
  obtain ⟨rfl, h1, hv, _⟩ := h
  have h1' : s' ((0 : Int32).toNatClampNeg) = nI v := h1
  have e0 : nI v &&& 31 = nI p := by rw [← ep]; exact pk_andN (by omega) 5 (by decide)
  have s5 : nI v >>> ((5 : Int32) &&& 31) = nI (v / 32) := pk_shrN hv _ 5 (by decide)
  have e1 : (nI v >>> ((5 : Int32) &&& 31)) &&& 31 = nI q := by rw [s5, ← eq]; exact pk_andN (by omega) 5 (by decide)
  have e2 : nI v >>> ((10 : Int32) &&& 31) = nI r := by rw [← er]; exact pk_shrN hv _ 10 (by decide)
  have HH : hg_H (upd (upd (upd a1 0 (nI p)) 1 (nI q)) 2 (nI r)) p q r := ⟨rfl, rfl, rfl, hp, hq, hr⟩
  refine br_f (by decide) (br_t (show (0 : Int32) < nI 1 by decide) ⟨pk_in 0 800 (by omega), nm_r h1' (nm_r (by rw [e0]) (nm_r (by rw [e1]) (nm_r (by rw [e2]) ?_)))⟩)
  exact hg_wonW hg HH (fun z => absurd z g6) (Hp _ _ s' HH)
end
section
/-! finite facts -/
def hg_h (i m j : Nat) : Nat := if i = j then m else 0
def hg_st (i : Nat) : Nat := if i = 0 then 1 else if i = 1 then 32 else 1024
/-! no heap -/
theorem hg_z_won : ∀ g, g < 8 → hg_wonS g 0 0 0 = decide (g = 1) := by decide +kernel
theorem hg_z_mv : ∀ g, g < 8 → hg_find g true 0 0 0 = [] := by decide +kernel
theorem hg_z_wn : ∀ g, g < 8 → hg_find g false 0 0 0 = [] := by decide +kernel
/-! one heap -/
theorem hg_b_w0 : ∀ i, i < 3 → ∀ m, m < 16 → hg_wonS 0 (hg_h i m 0) (hg_h i m 1) (hg_h i m 2) = decide (0 < m) := by decide +kernel
theorem hg_b_w1 : ∀ i, i < 3 → ∀ m, m < 16 → hg_wonS 1 (hg_h i m 0) (hg_h i m 1) (hg_h i m 2) = decide (¬ m = 1) := by decide +kernel
theorem hg_b_w2 : ∀ i, i < 3 → ∀ m, m < 16 → hg_wonS 2 (hg_h i m 0) (hg_h i m 1) (hg_h i m 2) = decide (0 < m) := by decide +kernel
theorem hg_b_w3 : ∀ i, i < 3 → ∀ m, m < 16 → hg_wonS 3 (hg_h i m 0) (hg_h i m 1) (hg_h i m 2) = decide (0 < m ∧ ¬ i = 1) := by decide +kernel
theorem hg_b_w4 : ∀ i, i < 3 → ∀ m, m < 16 → hg_wonS 4 (hg_h i m 0) (hg_h i m 1) (hg_h i m 2) = decide (0 < m ∧ i < 2) := by decide +kernel
theorem hg_b_w5 : ∀ i, i < 3 → ∀ m, m < 16 → hg_wonS 5 (hg_h i m 0) (hg_h i m 1) (hg_h i m 2) = false := by decide +kernel
theorem hg_b_w7 : ∀ i, i < 3 → ∀ m, m < 16 → hg_wonS 7 (hg_h i m 0) (hg_h i m 1) (hg_h i m 2) = decide (0 < m % 4) := by decide +kernel
theorem hg_b_x : ∀ i, i < 3 → ∀ m, m < 16 → (hg_h i m 0 ^^^ hg_h i m 1) ^^^ hg_h i m 2 = m := by decide +kernel
theorem hg_b_m0 : ∀ i, i < 3 → ∀ m, m < 16 → (hg_find 0 true (hg_h i m 0) (hg_h i m 1) (hg_h i m 2)).length = m := by decide +kernel
theorem hg_b_m1 : ∀ i, i < 3 → ∀ m, m < 16 → (hg_find 1 true (hg_h i m 0) (hg_h i m 1) (hg_h i m 2)).length = m := by decide +kernel
theorem hg_b_m2 : ∀ i, i < 3 → ∀ m, m < 16 → (hg_find 2 true (hg_h i m 0) (hg_h i m 1) (hg_h i m 2)).length = m := by decide +kernel
theorem hg_b_m3 : ∀ i, i < 3 → ∀ m, m < 16 → (hg_find 3 true (hg_h i m 0) (hg_h i m 1) (hg_h i m 2)).length = m := by decide +kernel
theorem hg_b_m4 : ∀ i, i < 3 → ∀ m, m < 16 → (hg_find 4 true (hg_h i m 0) (hg_h i m 1) (hg_h i m 2)).length = if i < 2 then m else 0 := by decide +kernel
theorem hg_b_m5 : ∀ i, i < 3 → ∀ m, m < 16 → (hg_find 5 true (hg_h i m 0) (hg_h i m 1) (hg_h i m 2)).length = 0 := by decide +kernel
theorem hg_b_m7 : ∀ i, i < 3 → ∀ m, m < 16 → (hg_find 7 true (hg_h i m 0) (hg_h i m 1) (hg_h i m 2)).length = if 3 ≤ m then 3 else m := by decide +kernel
theorem hg_b_n0 : ∀ i, i < 3 → ∀ m, m < 16 → hg_find 0 false (hg_h i m 0) (hg_h i m 1) (hg_h i m 2) = if m ≤ 0 then [] else [0] := by decide +kernel
theorem hg_b_n1 : ∀ i, i < 3 → ∀ m, m < 16 → hg_find 1 false (hg_h i m 0) (hg_h i m 1) (hg_h i m 2) = if m ≤ 1 then [] else [hg_st i] := by decide +kernel
theorem hg_b_n5 : ∀ i, i < 3 → ∀ m, m < 16 → hg_find 5 false (hg_h i m 0) (hg_h i m 1) (hg_h i m 2) = [] := by decide +kernel
theorem hg_b_n7 : ∀ i, i < 3 → ∀ m, m < 16 → hg_find 7 false (hg_h i m 0) (hg_h i m 1) (hg_h i m 2) = if m % 4 ≤ 0 then [] else [hg_st i * (m - m % 4)] := by decide +kernel
theorem hg_b_6 : ∀ i, i < 3 → ∀ m, m < 16 → hg_h i m 0 + 16 * hg_h i m 1 = 0 ∨ hg_h i m 2 = 0 := by decide +kernel
theorem hg_b_st : ∀ i, i < 3 → hg_st i % 32 = hg_h i 1 0 ∧ hg_st i / 32 % 32 = hg_h i 1 1 ∧ hg_st i / 1024 = hg_h i 1 2 := by decide +kernel
theorem hg_b_le : ∀ i, i < 3 → ∀ m, m < 16 → hg_h i m 0 ≤ 15 ∧ hg_h i m 1 ≤ 15 ∧ hg_h i m 2 ≤ 15 := by decide +kernel
/-! two heaps -/
theorem hg_c_w0 : ∀ x, x < 16 → ∀ y, y < 16 → hg_wonS 0 x y 0 = decide (¬ x = y) := by decide +kernel
theorem hg_c_w2 : ∀ x, x < 16 → ∀ y, y < 16 → hg_wonS 2 x y 0 = decide (0 < x + y) := by decide +kernel
theorem hg_c_w3 : ∀ x, x < 16 → ∀ y, y < 16 → hg_wonS 3 x y 0 = decide (0 < x) := by decide +kernel
theorem hg_c_m0 : ∀ x, x < 16 → ∀ y, y < 16 → (hg_find 0 true x y 0).length = x + y := by decide +kernel
theorem hg_c_m3 : ∀ x, x < 16 → ∀ y, y < 16 → (hg_find 3 true x y 0).length = x + y := by decide +kernel
theorem hg_c_m4 : ∀ x, x < 16 → ∀ y, y < 16 → (hg_find 4 true x y 0).length = x + y + if y ≤ x then y else x := by decide +kernel
theorem hg_c_m5 : ∀ x, x < 16 → ∀ y, y < 16 → (hg_find 5 true x y 0).length = if x = 0 ∨ y = 0 then 0 else if x = y then 2 else if y ≤ x then x / y else y / x := by decide +kernel
theorem hg_c_n3 : ∀ x, x < 16 → ∀ y, y < 16 → hg_find 3 false x y 0 = if x ≤ 0 then [] else [32 * y] := by decide +kernel
theorem hg_c_n0 : ∀ x, x < 16 → ∀ y, y < 16 → hg_find 0 false x y 0 = if x = y then [] else if x ≤ y then [x + 32 * x] else [y + 32 * y] := by decide +kernel
end
section
theorem hg_c_m2 : ∀ x, x < 16 → ∀ y, y < 16 → (hg_find 2 true x y 0).length = x + y + x * y := by decide +kernel
end
section
/-! the law's end: two heaps -/
section
variable {post : Int32 → St0 → Prop} {mc ms kc ks x y : Nat} {f x3 x4 x5 z0 z1 z2 : Int32} {a1 s : Nat → Int32}
theorem hg_k32 (n : Nat) : (32 : Int32) * nI n = nI (32 * n) := by rw [show (32 : Int32) = nI 32 from rfl, pk_mul]
theorem hg_L1344 (hp : post 1 ()) (hx : x < 16) (hy : y < 16) (H : hg_H a1 x y 0) (e : z1 = z0) : wL_lawOf_1344 post mc ms (nI x) (nI y) z0 z1 kc ks f a1 s := by
  refine br_t e ?_
  refine hg_wonW (g := 2) (by omega) H (fun z => absurd z (by decide)) ?_
  exact pk_le (x + y) 0 (fun z => br_t (hg_B0 (hg_c_w2 x hx y hy) (by omega)) hp) (fun z => br_t (hg_B1 (hg_c_w2 x hx y hy) z) hp) (nI_add x y) rfl (by omega) (by omega)
theorem hg_L1295 (hp : post 1 ()) (hx : x < 16) (hy : y < 16) (H : hg_H a1 x y 0) : wL_lawOf_1295 post mc ms x3 (nI x) (nI y) kc ks f a1 s := by
  unfold wL_lawOf_1295
  have n := hg_c_n0 x hx y hy
  by_cases z : x = y
  · rw [if_pos z] at n
    exact hg_wmE (g := 0) (by omega) H (fun z => absurd z (by decide)) n (fun f' s' => br_c (fun _ => br_t (by rw [z]) (hg_L1344 hp hx hy H rfl)) (fun _ => hg_L1344 hp hx hy H rfl))
  · rw [if_neg z] at n
    by_cases w : x3 = 0
    · subst w
      by_cases v : x ≤ y
      · rw [if_pos v] at n
        exact hg_wm1 (g := 0) (by omega) H (fun z => absurd z (by decide)) n (fun f' s' => br_t rfl (pk_eq x y (fun q => absurd q z) (fun _ => br_t (nI_le v (by omega)) (hg_L1344 hp hx hy H (by rw [hg_k32, nI_add])))))
      · rw [if_neg v] at n
        exact hg_wm1 (g := 0) (by omega) H (fun z => absurd z (by decide)) n (fun f' s' => br_t rfl (pk_eq x y (fun q => absurd q z) (fun _ => br_f (nI_ge (by omega) (by omega)) (hg_L1344 hp hx hy H (by rw [hg_k32, nI_add])))))
    · have n' : ∃ v, hg_find 0 false x y 0 = [v] := by
        rw [n]
        split
        · exact ⟨_, rfl⟩
        · exact ⟨_, rfl⟩
      obtain ⟨v, n'⟩ := n'
      exact hg_wmO (g := 0) (by omega) H (fun z => absurd z (by decide)) n' w (fun f' s' => br_f w (hg_L1344 hp hx hy H rfl))
theorem hg_L1276 (hp : post 1 ()) (hx : x < 16) (hy : y < 16) (H : hg_H a1 x y 0) (e : z1 = z0) : wL_lawOf_1276 post mc ms x3 (nI x) (nI y) z0 z1 kc ks f a1 s := by
  refine br_t e (pk_eq x 0 (fun z => ?_) (fun z => hg_L1295 hp hx hy H))
  have n := hg_c_n3 x hx y hy
  rw [if_pos (by omega)] at n
  refine hg_winning (g := 3) (by omega) H (fun z => absurd z (by decide)) (fun f' s' => ?_)
  rw [n]
  exact br_t rfl (hg_L1295 hp hx hy H)
theorem hg_L1241 (hp : post 1 ()) (hx : x < 16) (hy : y < 16) (H : hg_H a1 x y 0) (e : z1 = z0) : wL_lawOf_1241 post mc ms x3 (nI x) (nI y) z0 z1 kc ks f a1 s := by
  refine br_t e ?_
  refine hg_wonW (g := 6) (by omega) H (fun _ => Or.inr rfl) (br_t rfl ?_)
  have n := hg_c_n3 x hx y hy
  by_cases z : x ≤ 0
  · rw [if_pos z] at n
    exact hg_wmE (g := 3) (by omega) H (fun z => absurd z (by decide)) n (fun f' s' => br_t (nI_le (b := 0) z (by omega)) (hg_L1276 hp hx hy H rfl))
  · rw [if_neg z] at n
    exact hg_wm1 (g := 3) (by omega) H (fun z => absurd z (by decide)) n (fun f' s' => br_f (nI_nle (by omega) (by omega)) (hg_L1276 hp hx hy H (hg_k32 y).symm))
theorem hg_L1208 {lo hi : Nat} (hp : post 1 ()) (hx : x < 16) (hy : y < 16) (H : hg_H a1 x y 0) (hL : (y ≤ x ∧ lo = y ∧ hi = x) ∨ (x < y ∧ lo = x ∧ hi = y)) : wL_lawOf_1208 post mc ms x3 (nI x) (nI y) (nI lo) (nI hi) kc ks f a1 s := by
  unfold wL_lawOf_1208
  refine hg_moves (g := 5) (by omega) H (fun z => absurd z (by decide)) (fun f' s' => ?_)
  rw [hg_c_m5 x hx y hy]
  refine pk_eq lo 0 (fun z => hg_L1241 hp hx hy H ?_) (fun z => pk_eq lo hi (fun w => hg_L1241 hp hx hy H ?_) (fun w => ⟨nI_ne0 (by omega) (by omega), hg_L1241 hp hx hy H ?_⟩))
  · rw [if_pos (by omega)]
    rfl
  · rw [if_neg (by omega), if_pos (by omega)]
    rfl
  · rw [if_neg (by omega), if_neg (by omega), pk_div (by omega) (by omega) (by omega)]
    rcases hL with ⟨q, rfl, rfl⟩ | ⟨q, rfl, rfl⟩
    · rw [if_pos q]
    · rw [if_neg (by omega)]
theorem hg_L1173 (hp : post 1 ()) (hx : x < 16) (hy : y < 16) (H : hg_H a1 x y 0) (e : z1 = z0) : wL_lawOf_1173 post mc ms x3 (nI x) (nI y) z0 z1 kc ks f a1 s :=
  br_t e (pk_le y x (fun q => br_t (nI_le q (by omega)) (hg_L1208 hp hx hy H (Or.inl ⟨q, rfl, rfl⟩))) (fun q => br_f (nI_ge q (by omega)) (hg_L1208 hp hx hy H (Or.inr ⟨q, rfl, rfl⟩))))
theorem hg_L1119 (hp : post 1 ()) (hx : x < 16) (hy : y < 16) (H : hg_H a1 x y 0) (e : z2 = z1 + z0) : wL_lawOf_1119 post mc ms x3 (nI x) (nI y) z0 z1 z2 kc ks f a1 s := by
  refine br_t e ?_
  refine hg_moves (g := 2) (by omega) H (fun z => absurd z (by decide)) (fun f' s' => br_t ?_ ?_)
  · rw [hg_c_m2 x hx y hy, nI_add, pk_mul, nI_add]
  refine hg_moves (g := 3) (by omega) H (fun z => absurd z (by decide)) (fun f' s' => br_t ?_ ?_)
  · rw [hg_c_m3 x hx y hy, nI_add]
  refine hg_wonW (g := 3) (by omega) H (fun z => absurd z (by decide)) ?_
  exact pk_le x 0 (fun z => hg_L1173 hp hx hy H (hg_B0 (hg_c_w3 x hx y hy) (by omega))) (fun z => hg_L1173 hp hx hy H (hg_B1 (hg_c_w3 x hx y hy) z))
theorem hg_L1063 (hp : post 1 ()) (hx : x < 16) (hy : y < 16) (H : hg_H a1 x y 0) (e : z1 = z0) : wL_lawOf_1063 post mc ms x3 (nI x) (nI y) z0 z1 kc ks f a1 s := by
  refine br_t e ?_
  refine hg_value0 H (br_t ?_ ?_)
  · rw [hg_xor, Nat.xor_zero]
  refine hg_moves (g := 0) (by omega) H (fun z => absurd z (by decide)) (fun f' s' => br_t ?_ ?_)
  · rw [hg_c_m0 x hx y hy, nI_add]
  refine hg_moves (g := 4) (by omega) H (fun z => absurd z (by decide)) (fun f' s' => ?_)
  rw [hg_c_m4 x hx y hy]
  refine pk_le y x (fun q => hg_L1119 hp hx hy H ?_) (fun q => hg_L1119 hp hx hy H ?_)
  · rw [if_pos q, nI_add, nI_add]
  · rw [if_neg (by omega), nI_add, nI_add]
theorem hg_L1000 (hp : post 1 ()) (e : z1 = z0) : wL_lawOf_1000 post mc ms x3 x4 x5 z0 z1 kc ks f a1 s := by
  obtain ⟨x, hx, ex⟩ := pk_andE x4 (m := 15) 4 (by decide)
  obtain ⟨y, hy, ey⟩ := pk_andE x5 (m := 15) 4 (by decide)
  refine br_t e (nm_r ex (nm_r ey ?_))
  refine hg_heap (i := 0) (by omega) hx ?_
  refine hg_heap (i := 1) (by omega) hy ?_
  refine hg_heap (i := 2) (n := 0) (by omega) (by omega) ?_
  have H : hg_H (upd (upd (upd a1 0 (nI x)) 1 (nI y)) 2 (nI 0)) x y 0 := ⟨rfl, rfl, rfl, by omega, by omega, by omega⟩
  refine hg_wonW (g := 0) (by omega) H (fun z => absurd z (by decide)) ?_
  exact pk_eq x y (fun z => hg_L1063 hp hx hy H (hg_B0 (hg_c_w0 x hx y hy) (fun w => w z))) (fun z => hg_L1063 hp hx hy H (hg_B1 (hg_c_w0 x hx y hy) z))
end
end
section
/-! the law's middle: one heap i with m -/
def hg_HH (a1 : Nat → Int32) (i m : Nat) : Prop := hg_H a1 (hg_h i m 0) (hg_h i m 1) (hg_h i m 2)
def hg_X (x0 x7 x8 : Int32) (i m : Nat) : Prop := i < 3 ∧ m < 16 ∧ ((x8 = 1 ∧ x0 = nI i) ∨ (x8 = 0 ∧ m = 0 ∧ i = 0)) ∧ ((x7 = 0 ∧ (x0 < 0 ∨ ¬ x0 ≤ 2)) ∨ (x7 = 1 ∧ ∃ j, j < 3 ∧ x0 = nI j ∧ hg_h i m j = m))
theorem hg_at {a1 : Nat → Int32} {i m j : Nat} (H : hg_HH a1 i m) (hj : j < 3) : a1 j = nI (hg_h i m j) :=
  co_3 (P := fun j => a1 j = nI (hg_h i m j)) H.1 H.2.1 H.2.2.1 hj
theorem hg_put {a1 : Nat → Int32} {i m n : Nat} (H : hg_HH a1 i n) (hi : i < 3) (hm : m < 16) : hg_HH (upd a1 i (nI m)) i m := by
  have q : ∀ j, j < 3 → upd a1 i (nI m) j = nI (hg_h i m j) := by
    intro j hj
    by_cases e : j = i
    · rw [e, pk_us, hg_h, if_pos rfl]
    · rw [pk_un e, hg_at H hj, hg_h, hg_h, if_neg (fun z => e z.symm), if_neg (fun z => e z.symm)]
  have l := hg_b_le i hi m hm
  exact ⟨q 0 (by omega), q 1 (by omega), q 2 (by omega), l.1, l.2.1, l.2.2⟩
theorem hg_self (i m : Nat) : hg_h i m i = m := if_pos rfl
section
variable {post : Int32 → St0 → Prop} {mc ms kc ks i m : Nat} {f x0 x3 x4 x5 x7 x8 z0 z1 : Int32} {a1 s : Nat → Int32}
theorem hg_L983 (hp : post 1 ()) (X : hg_X x0 x7 x8 i m) (H : hg_HH a1 i m) : wL_lawOf_983 post mc ms x0 x3 x4 x5 x7 (nI m) kc ks f a1 s := by
  unfold wL_lawOf_983
  obtain ⟨hi, hm, _, h7⟩ := X
  rcases h7 with ⟨rfl, hb⟩ | ⟨rfl, j, hj, rfl, e⟩
  · exact hg_hasB hb (br_t rfl (hg_L1000 hp rfl))
  · exact hg_has hj (br_f (by decide) (hg_L1000 hp (by rw [hg_at H hj, e])))
theorem hg_x0 (X : hg_X x0 x7 x8 i m) (h : 0 < m) : x0 = nI i := by
  obtain ⟨hi, hm, h8, _⟩ := X
  rcases h8 with ⟨_, e⟩ | ⟨_, e, _⟩
  · exact e
  · omega
theorem hg_L936 (hp : post 1 ()) (X : hg_X x0 x7 x8 i m) (H : hg_HH a1 i m) : wL_lawOf_936 post mc ms x0 x3 x4 x5 x7 (nI m) kc ks f a1 s := by
  have hi := X.1
  have hm := X.2.1
  refine pk_le m 1 (fun _ => hg_L983 hp X H) (fun z => ?_)
  have e0 := hg_x0 X (by omega)
  have n := hg_b_n1 i hi m hm
  rw [if_neg (by omega)] at n
  have st := hg_b_st i hi
  have l := hg_b_le i hi 1 (by omega)
  refine hg_pl1 (g := 1) (by omega) (by omega) (by omega) H n st.1 st.2.1 st.2.2 l.1 l.2.1 l.2.2 (fun f' a1' s' H' => br_t (hg_B0 (hg_b_w1 i hi 1 (by omega)) (fun w => w rfl)) ?_)
  have HH' : hg_HH a1' i 1 := H'
  have ei : a1' i = 1 := by
    rw [hg_at HH' hi, hg_self]
    rfl
  rw [e0]
  refine hg_has hi (br_t ei ?_)
  refine hg_wonW (g := 1) (by omega) H' (fun z => absurd z (by decide)) (br_t (hg_B0 (hg_b_w1 i hi 1 (by omega)) (fun w => w rfl)) ?_)
  refine hg_heap hi hm (br_t ei ?_)
  rw [← e0]
  exact hg_L983 hp X (hg_put HH' hi hm)
theorem hg_L781 (hp : post 1 ()) (X : hg_X x0 x7 x8 i m) (H : hg_HH a1 i m) (e : z1 = z0) : wL_lawOf_781 post mc ms x0 x3 x4 x5 x7 (nI m) z0 z1 kc ks f a1 s := by
  have hi := X.1
  have hm := X.2.1
  refine br_t e ?_
  refine hg_wonW (g := 6) (by omega) H (fun _ => hg_b_6 i hi m hm) (br_t rfl ?_)
  refine hg_moves (g := 6) (by omega) H (fun _ => hg_b_6 i hi m hm) (fun f' s' => br_t rfl ?_)
  refine hg_valueB (by decide) (by decide) (br_t rfl ?_)
  refine hg_valueB (by decide) (by decide) (br_t rfl ?_)
  refine hg_pl3 (br_t rfl ?_)
  refine hg_pl6 (br_t rfl ?_)
  refine hg_plB (Or.inl (by decide)) (br_t rfl ?_)
  refine hg_plB (Or.inr (by decide)) (br_t rfl ?_)
  refine pk_le m 0 (fun _ => hg_L936 hp X H) (fun z => ?_)
  have e0 := hg_x0 X z
  have n := hg_b_n0 i hi m hm
  rw [if_neg (by omega)] at n
  refine hg_plO (g := 0) (by omega) (by omega) (by omega) H n (by decide) (fun f' s' => br_t rfl ?_)
  refine hg_plO (g := 0) (by omega) (by omega) (by omega) H n (by decide) (fun f' s' => br_t rfl ?_)
  have z0 : hg_h i 0 0 = 0 ∧ hg_h i 0 1 = 0 ∧ hg_h i 0 2 = 0 := ⟨ite_self 0, ite_self 0, ite_self 0⟩
  refine hg_pl1 (g := 0) (by omega) (by omega) (by omega) H n z0.1.symm z0.2.1.symm z0.2.2.symm (by omega) (by omega) (by omega) (fun f' a1' s' H' => br_t (hg_B0 (hg_b_w0 i hi 0 (by omega)) (by omega)) ?_)
  have HH' : hg_HH a1' i 0 := H'
  have ei : a1' i = 0 := by
    rw [hg_at HH' hi, hg_self]
    rfl
  rw [e0]
  refine hg_has hi (br_t ei ?_)
  refine hg_heap hi hm (br_t ei ?_)
  rw [← e0]
  exact hg_L936 hp X (hg_put HH' hi hm)
theorem hg_r4 (hm : m < 16) : nI m - nI m / 4 * 4 = nI (m % 4) := pk_rem (d := 4) (by omega) (by omega) (by omega)
theorem hg_L748 (hp : post 1 ()) (X : hg_X x0 x7 x8 i m) (H : hg_HH a1 i m) (e : z1 = z0) : wL_lawOf_748 post mc ms x0 x3 x4 x5 x7 (nI m) (nI (hg_st i)) z0 z1 kc ks f a1 s := by
  have hi := X.1
  have hm := X.2.1
  have r4 := hg_r4 hm
  refine br_t e ?_
  have n := hg_b_n7 i hi m hm
  by_cases z : m % 4 ≤ 0
  · rw [if_pos z] at n
    refine hg_wmE (g := 7) (by omega) H (fun z => absurd z (by decide)) n (fun f' s' => ⟨by decide, pk_le (m % 4) 0 (fun _ => hg_L781 hp X H rfl) (fun y => absurd y (by omega)) r4 rfl (by omega) (by omega)⟩)
  · rw [if_neg z] at n
    refine hg_wm1 (g := 7) (by omega) H (fun z => absurd z (by decide)) n (fun f' s' => ⟨by decide, pk_le (m % 4) 0 (fun y => absurd y z) (fun y => ⟨by decide, hg_L781 hp X H ?_⟩) r4 rfl (by omega) (by omega)⟩)
    rw [r4, pk_sub (Nat.mod_le m 4), pk_mul]
theorem hg_L726 (hp : post 1 ()) (X : hg_X x0 x7 x8 i m) (H : hg_HH a1 i m) (e : z1 = z0) : wL_lawOf_726 post mc ms x0 x3 x4 x5 x7 (nI m) (nI (hg_st i)) z0 z1 kc ks f a1 s := by
  have hi := X.1
  have hm := X.2.1
  refine br_t e ?_
  refine hg_winning (g := 7) (by omega) H (fun z => absurd z (by decide)) (fun f' s' => ?_)
  rw [hg_b_n7 i hi m hm]
  refine ⟨by decide, pk_le (m % 4) 0 (fun z => hg_L748 hp X H ?_) (fun z => hg_L748 hp X H ?_) (hg_r4 hm) rfl (by omega) (by omega)⟩
  · rw [if_pos z]
    rfl
  · rw [if_neg (by omega)]
    rfl
theorem hg_L704 (hp : post 1 ()) (X : hg_X x0 x7 x8 i m) (H : hg_HH a1 i m) (e : z1 = z0) : wL_lawOf_704 post mc ms x0 x3 x4 x5 x7 (nI m) (nI (hg_st i)) z0 z1 kc ks f a1 s := by
  have hi := X.1
  have hm := X.2.1
  refine br_t e ?_
  refine hg_moves (g := 7) (by omega) H (fun z => absurd z (by decide)) (fun f' s' => ?_)
  rw [hg_b_m7 i hi m hm]
  refine pk_le 3 m (fun z => hg_L726 hp X H ?_) (fun z => hg_L726 hp X H ?_)
  · rw [if_pos z]
    rfl
  · rw [if_neg (by omega)]
theorem hg_L666 (hp : post 1 ()) (X : hg_X x0 x7 x8 i m) (H : hg_HH a1 i m) (e : z1 = z0) : wL_lawOf_666 post mc ms x0 x3 x4 x5 x7 (nI m) (nI (hg_st i)) z0 z1 kc ks f a1 s := by
  have hi := X.1
  have hm := X.2.1
  have r4 := hg_r4 hm
  refine br_t e ?_
  refine hg_value7 H ⟨by decide, br_t (by rw [r4, hg_b_x i hi m hm]) ?_⟩
  refine hg_wonW (g := 7) (by omega) H (fun z => absurd z (by decide)) ⟨by decide, ?_⟩
  exact pk_le (m % 4) 0 (fun z => hg_L704 hp X H (hg_B0 (hg_b_w7 i hi m hm) (by omega))) (fun z => hg_L704 hp X H (hg_B1 (hg_b_w7 i hi m hm) z)) r4 rfl (by omega) (by omega)
theorem hg_L641 (hp : post 1 ()) (X : hg_X x0 x7 x8 i m) (H : hg_HH a1 i m) (e : z1 = z0) : wL_lawOf_641 post mc ms x0 x3 x4 x5 x7 x8 (nI m) (nI (hg_st i)) z0 z1 kc ks f a1 s := by
  have hi := X.1
  have hm := X.2.1
  refine br_t e ?_
  refine hg_moves (g := 4) (by omega) H (fun z => absurd z (by decide)) (fun f' s' => ?_)
  have n := hg_b_m4 i hi m hm
  rcases X.2.2.1 with ⟨e8, e0⟩ | ⟨e8, em, ei⟩
  · refine br_f (by rw [e8]; decide) ?_
    refine pk_le 2 i (fun z => hg_L666 hp X H ?_) (fun z => hg_L666 hp X H ?_) rfl e0
    · rw [n, if_neg (by omega)]
      rfl
    · rw [n, if_pos z]
  · refine br_t e8 (hg_L666 hp X H ?_)
    rw [n, em]
    rw [if_pos (by omega)]
    rfl
theorem hg_L579 (hp : post 1 ()) (X : hg_X x0 x7 x8 i m) (H : hg_HH a1 i m) (e : z1 = z0) : wL_lawOf_579 post mc ms x0 x3 x4 x5 x7 x8 (nI m) (nI (hg_st i)) z0 z1 kc ks f a1 s := by
  have hi := X.1
  have hm := X.2.1
  refine br_t e ?_
  refine hg_moves (g := 3) (by omega) H (fun z => absurd z (by decide)) (fun f' s' => br_t (by rw [hg_b_m3 i hi m hm]) ?_)
  refine hg_wonW (g := 5) (by omega) H (fun z => absurd z (by decide)) (br_t (by rw [hg_b_w5 i hi m hm]; rfl) ?_)
  refine hg_moves (g := 5) (by omega) H (fun z => absurd z (by decide)) (fun f' s' => br_t (by rw [hg_b_m5 i hi m hm]; rfl) ?_)
  refine hg_winning (g := 5) (by omega) H (fun z => absurd z (by decide)) (fun f' s' => br_t (by rw [hg_b_n5 i hi m hm]; rfl) ?_)
  refine hg_wonW (g := 4) (by omega) H (fun z => absurd z (by decide)) ?_
  have w := hg_b_w4 i hi m hm
  refine pk_le m 0 (fun z => hg_L641 hp X H (hg_B0 w (by omega))) (fun z => ?_)
  exact pk_le 2 i (fun y => hg_L641 hp X H (hg_B0 w (by omega))) (fun y => hg_L641 hp X H (hg_B1 w ⟨z, y⟩)) rfl (hg_x0 X z)
theorem hg_L542 (hp : post 1 ()) (X : hg_X x0 x7 x8 i m) (H : hg_HH a1 i m) (e : z1 = z0) : wL_lawOf_542 post mc ms x0 x3 x4 x5 x7 x8 (nI m) (nI (hg_st i)) z0 z1 kc ks f a1 s := by
  have hi := X.1
  have hm := X.2.1
  refine br_t e ?_
  refine hg_moves (g := 2) (by omega) H (fun z => absurd z (by decide)) (fun f' s' => br_t (by rw [hg_b_m2 i hi m hm]) ?_)
  refine hg_wonW (g := 3) (by omega) H (fun z => absurd z (by decide)) ?_
  have w := hg_b_w3 i hi m hm
  refine pk_le m 0 (fun z => hg_L579 hp X H (hg_B0 w (by omega))) (fun z => ?_)
  exact pk_eq i 1 (fun y => hg_L579 hp X H (hg_B0 w (by omega))) (fun y => hg_L579 hp X H (hg_B1 w ⟨z, y⟩)) (hg_x0 X z) rfl
theorem hg_L523 (hp : post 1 ()) (X : hg_X x0 x7 x8 i m) (H : hg_HH a1 i m) (e : z1 = z0) : wL_lawOf_523 post mc ms x0 x3 x4 x5 x7 x8 (nI m) (nI (hg_st i)) z0 z1 kc ks f a1 s := by
  have hi := X.1
  have hm := X.2.1
  refine br_t e ?_
  refine hg_wonW (g := 2) (by omega) H (fun z => absurd z (by decide)) ?_
  have w := hg_b_w2 i hi m hm
  exact pk_le m 0 (fun z => hg_L542 hp X H (hg_B0 w (by omega))) (fun z => hg_L542 hp X H (hg_B1 w z))
theorem hg_L500 (hp : post 1 ()) (X : hg_X x0 x7 x8 i m) (H : hg_HH a1 i m) (e : z1 = z0) : wL_lawOf_500 post mc ms x0 x3 x4 x5 x7 x8 (nI m) (nI (hg_st i)) z0 z1 kc ks f a1 s := by
  have hi := X.1
  have hm := X.2.1
  refine br_t e ?_
  have n := hg_b_n1 i hi m hm
  by_cases z : m ≤ 1
  · rw [if_pos z] at n
    exact hg_wmE (g := 1) (by omega) H (fun z => absurd z (by decide)) n (fun f' s' => pk_le m 1 (fun _ => hg_L523 hp X H rfl) (fun y => absurd y (by omega)))
  · rw [if_neg z] at n
    exact hg_wm1 (g := 1) (by omega) H (fun z => absurd z (by decide)) n (fun f' s' => pk_le m 1 (fun y => absurd y z) (fun _ => hg_L523 hp X H rfl))
theorem hg_L469 (hp : post 1 ()) (X : hg_X x0 x7 x8 i m) (H : hg_HH a1 i m) (e : z1 = z0) : wL_lawOf_469 post mc ms x0 x3 x4 x5 x7 x8 (nI m) (nI (hg_st i)) z0 z1 kc ks f a1 s := by
  have hi := X.1
  have hm := X.2.1
  refine br_t e ?_
  refine hg_moves (g := 1) (by omega) H (fun z => absurd z (by decide)) (fun f' s' => br_t (by rw [hg_b_m1 i hi m hm]) ?_)
  refine hg_winning (g := 1) (by omega) H (fun z => absurd z (by decide)) (fun f' s' => ?_)
  rw [hg_b_n1 i hi m hm]
  refine pk_le m 1 (fun z => hg_L500 hp X H ?_) (fun z => hg_L500 hp X H ?_)
  · rw [if_pos z]
    rfl
  · rw [if_neg (by omega)]
    rfl
theorem hg_L436 (hp : post 1 ()) (X : hg_X x0 x7 x8 i m) (H : hg_HH a1 i m) (e : z1 = z0) : wL_lawOf_436 post mc ms x0 x3 x4 x5 x7 x8 (nI m) (nI (hg_st i)) z0 z1 kc ks f a1 s := by
  have hi := X.1
  have hm := X.2.1
  refine br_t e ?_
  refine hg_value0 H (br_t (by rw [hg_b_x i hi m hm]) ?_)
  refine hg_wonW (g := 1) (by omega) H (fun z => absurd z (by decide)) ?_
  have w := hg_b_w1 i hi m hm
  exact pk_eq m 1 (fun z => hg_L469 hp X H (hg_B0 w (fun q => q z))) (fun z => hg_L469 hp X H (hg_B1 w z))
theorem hg_L415 (hp : post 1 ()) (X : hg_X x0 x7 x8 i m) (H : hg_HH a1 i m) (e : z1 = z0) : wL_lawOf_415 post mc ms x0 x3 x4 x5 x7 x8 (nI m) (nI (hg_st i)) z0 z1 kc ks f a1 s := by
  have hi := X.1
  have hm := X.2.1
  refine br_t e ?_
  have n := hg_b_n0 i hi m hm
  by_cases z : m ≤ 0
  · rw [if_pos z] at n
    exact hg_wmE (g := 0) (by omega) H (fun z => absurd z (by decide)) n (fun f' s' => pk_le m 0 (fun _ => hg_L436 hp X H rfl) (fun y => absurd y (by omega)))
  · rw [if_neg z] at n
    exact hg_wm1 (g := 0) (by omega) H (fun z => absurd z (by decide)) n (fun f' s' => pk_le m 0 (fun y => absurd y z) (fun _ => hg_L436 hp X H rfl))
theorem hg_L385 (hp : post 1 ()) (X : hg_X x0 x7 x8 i m) (H : hg_HH a1 i m) (e : z1 = z0) : wL_lawOf_385 post mc ms x0 x3 x4 x5 x7 x8 (nI m) (nI (hg_st i)) z0 z1 kc ks f a1 s := by
  have hi := X.1
  have hm := X.2.1
  refine br_t e ?_
  refine hg_moves (g := 0) (by omega) H (fun z => absurd z (by decide)) (fun f' s' => br_t (by rw [hg_b_m0 i hi m hm]) ?_)
  refine hg_winning (g := 0) (by omega) H (fun z => absurd z (by decide)) (fun f' s' => ?_)
  rw [hg_b_n0 i hi m hm]
  refine pk_le m 0 (fun z => hg_L415 hp X H ?_) (fun z => hg_L415 hp X H ?_)
  · rw [if_pos z]
    rfl
  · rw [if_neg (by omega)]
    rfl
theorem hg_L367 (hp : post 1 ()) (X : hg_X x0 x7 x8 i m) (H : hg_HH a1 i m) : wL_lawOf_367 post mc ms x0 x3 x4 x5 x7 x8 (nI m) (nI (hg_st i)) kc ks f a1 s := by
  have hi := X.1
  have hm := X.2.1
  unfold wL_lawOf_367
  refine hg_wonW (g := 0) (by omega) H (fun z => absurd z (by decide)) ?_
  have w := hg_b_w0 i hi m hm
  exact pk_le m 0 (fun z => hg_L385 hp X H (hg_B0 w (by omega))) (fun z => hg_L385 hp X H (hg_B1 w z))
theorem hg_L335 (hp : post 1 ()) (X : hg_X x0 x7 x8 i m) (H : hg_HH a1 i m) : wL_lawOf_335 post mc ms x0 x3 x4 x5 x7 x8 (nI m) kc ks f a1 s := by
  have L := hg_L367 (mc := mc) (ms := ms) (kc := kc) (ks := ks) (f := f) (s := s) (x3 := x3) (x4 := x4) (x5 := x5) hp X H
  have hi := X.1
  rcases X.2.2.1 with ⟨e8, e0⟩ | ⟨e8, em, ei⟩
  · refine br_f (by rw [e8]; decide) ?_
    have q : i = 0 ∨ i = 1 ∨ i = 2 := by omega
    rcases q with q | q | q
    · rw [q] at e0 L
      exact br_t e0 L
    · rw [q] at e0 L
      exact br_f (by rw [e0]; decide) (br_t e0 L)
    · rw [q] at e0 L
      exact br_f (by rw [e0]; decide) (br_f (by rw [e0]; decide) L)
  · rw [ei] at L
    exact br_t e8 L
end
end
section
/-! the law's start: no heap -/
def hg_I (x0 x1 x7 x8 : Int32) : Prop := (x7 = 0 ∧ x8 = 0 ∧ (x0 < 0 ∨ ¬ x0 ≤ 2)) ∨ (x7 = 1 ∧ ∃ i, i < 3 ∧ x0 = nI i ∧ ((x8 = 0 ∧ (x1 < 0 ∨ ¬ x1 ≤ 15)) ∨ (x8 = 1 ∧ ∃ n, n < 16 ∧ x1 = nI n)))
def hg_G (x2 x9 x10 x11 : Int32) : Prop := (x9 = 0 ∧ (x2 < 0 ∨ ¬ x2 ≤ 7) ∧ x10 = 0 ∧ x11 = 0) ∨ (x9 = 1 ∧ ∃ g, g < 8 ∧ x2 = nI g ∧ x10 = hg_B (decide (g = 0 ∨ g = 7)) ∧ x11 = hg_B (decide (¬ g = 3 ∧ ¬ g = 6)))
theorem hg_Z {a1 : Nat → Int32} (H : hg_H a1 0 0 0) (i : Nat) : hg_HH a1 i 0 := by
  have z0 : hg_h i 0 0 = 0 ∧ hg_h i 0 1 = 0 ∧ hg_h i 0 2 = 0 := ⟨ite_self 0, ite_self 0, ite_self 0⟩
  unfold hg_HH
  rw [z0.1, z0.2.1, z0.2.2]
  exact H
section
variable {post : Int32 → St0 → Prop} {mc ms kc ks i m : Nat} {f x0 x1 x2 x3 x4 x5 x7 x8 x9 x10 x11 z0 z1 : Int32} {a1 s : Nat → Int32}
theorem hg_L297 (hp : post 1 ()) (X : hg_X x0 x7 x8 i m) (H : hg_HH a1 i m) (h1 : x8 = 1 → x1 = nI m) (e : z1 = z0) : wL_lawOf_297 post mc ms x0 x1 x3 x4 x5 x7 x8 z0 z1 kc ks f a1 s := by
  refine br_t e ?_
  refine hg_heapB (Or.inl (Or.inr (by decide))) (br_t rfl ?_)
  refine hg_heapB (Or.inr ⟨⟨0, by omega, rfl⟩, Or.inr (by decide)⟩) (br_t rfl ?_)
  rcases X.2.2.1 with ⟨e8, e0⟩ | ⟨e8, em, ei⟩
  · refine br_f (by rw [e8]; decide) ?_
    rw [h1 e8]
    exact hg_L335 hp X H
  · refine br_t e8 ?_
    have L := hg_L335 (mc := mc) (ms := ms) (kc := kc) (ks := ks) (f := f) (s := s) (x3 := x3) (x4 := x4) (x5 := x5) hp X H
    rw [em] at L
    exact L
theorem hg_L249 (hp : post 1 ()) (I : hg_I x0 x1 x7 x8) (H : hg_H a1 0 0 0) (e : z1 = z0) : wL_lawOf_249 post mc ms x0 x1 x3 x4 x5 x7 x8 z0 z1 kc ks f a1 s := by
  refine br_t e ?_
  have Z := hg_Z H 0
  rcases I with ⟨rfl, rfl, hb⟩ | ⟨rfl, i, hi, rfl, ⟨rfl, hb⟩ | ⟨rfl, n, hn, rfl⟩⟩
  · refine hg_heapB (Or.inl hb) (br_t rfl (br_t rfl ?_))
    refine hg_hasB hb (br_t rfl ?_)
    exact hg_L297 (i := 0) (m := 0) hp ⟨by omega, by omega, Or.inr ⟨rfl, rfl, rfl⟩, Or.inl ⟨rfl, hb⟩⟩ Z (fun z => absurd z (by decide)) rfl
  · refine hg_heapB (Or.inr ⟨⟨i, hi, rfl⟩, hb⟩) (br_t rfl (br_t rfl ?_))
    refine hg_has hi (br_f (by decide) (br_t rfl ?_))
    have q : hg_h 0 0 i = 0 := ite_self 0
    exact hg_L297 (i := 0) (m := 0) hp ⟨by omega, by omega, Or.inr ⟨rfl, rfl, rfl⟩, Or.inr ⟨rfl, i, hi, rfl, q⟩⟩ Z (fun z => absurd z (by decide)) (by rw [hg_at Z hi, q]; rfl)
  · have q : hg_h 0 0 i = 0 := ite_self 0
    refine hg_heap hi hn (br_f (by decide) (br_t (by rw [hg_at Z hi, q]; rfl) ?_))
    refine hg_has hi (br_f (by decide) (br_f (by decide) ?_))
    exact hg_L297 (i := i) (m := n) hp ⟨hi, hn, Or.inl ⟨rfl, rfl⟩, Or.inr ⟨rfl, i, hi, rfl, hg_self i n⟩⟩ (hg_put (hg_Z H i) hi hn) (fun _ => rfl) pk_us
theorem hg_L228 (hp : post 1 ()) (I : hg_I x0 x1 x7 x8) (G : hg_G x2 x9 x10 x11) (H : hg_H a1 0 0 0) (e : z1 = z0) : wL_lawOf_228 post mc ms x0 x1 x2 x3 x4 x5 x7 x8 x11 z0 z1 kc ks f a1 s := by
  refine br_t e ?_
  rcases G with ⟨rfl, hb, rfl, rfl⟩ | ⟨rfl, g, hg, rfl, rfl, rfl⟩
  · exact hg_plB hb (br_t rfl (hg_L249 hp I H rfl))
  · by_cases g3 : g = 3
    · subst g3
      exact hg_pl3 (br_t rfl (hg_L249 hp I H rfl))
    · by_cases g6 : g = 6
      · subst g6
        exact hg_pl6 (br_t rfl (hg_L249 hp I H rfl))
      · refine hg_plE hg g3 g6 H (hg_z_wn g hg) (fun f' s' => br_f ?_ (hg_L249 hp I H rfl))
        rw [hg_B1 rfl ⟨g3, g6⟩]
        decide
theorem hg_L207 (hp : post 1 ()) (I : hg_I x0 x1 x7 x8) (G : hg_G x2 x9 x10 x11) (H : hg_H a1 0 0 0) (e : z1 = z0) : wL_lawOf_207 post mc ms x0 x1 x2 x3 x4 x5 x7 x8 x10 x11 z0 z1 kc ks f a1 s := by
  refine br_t e ?_
  rcases id G with ⟨_, hb, e10, _⟩ | ⟨_, g, hg, e2, e10, _⟩
  · refine hg_valueB ?_ ?_ (br_t e10 (hg_L228 hp I G H rfl))
    · intro z
      rw [z] at hb
      exact absurd hb (by decide)
    · intro z
      rw [z] at hb
      exact absurd hb (by decide)
  · by_cases g0 : g = 0
    · have q : x2 = 0 := by rw [e2, g0]; rfl
      rw [q] at G ⊢
      exact hg_value0 H (br_f (by rw [e10, g0]; decide) (hg_L228 hp I G H rfl))
    · by_cases g7 : g = 7
      · have q : x2 = 7 := by rw [e2, g7]; rfl
        rw [q] at G ⊢
        exact hg_value7 H (br_f (by rw [e10, g7]; decide) (hg_L228 hp I G H rfl))
      · refine hg_valueB ?_ ?_ (br_t ?_ (hg_L228 hp I G H rfl))
        · rw [e2]
          exact fun z => g0 ((nI_eq (by omega) (by omega)).mp z)
        · rw [e2]
          exact fun z => g7 ((nI_eq (by omega) (by omega)).mp z)
        · rw [e10]
          exact hg_B0 rfl (by omega)
theorem hg_L186 (hp : post 1 ()) (I : hg_I x0 x1 x7 x8) (G : hg_G x2 x9 x10 x11) (H : hg_H a1 0 0 0) (e : z1 = z0) : wL_lawOf_186 post mc ms x0 x1 x2 x3 x4 x5 x7 x8 x9 x10 x11 z0 z1 kc ks f a1 s := by
  refine br_t e ?_
  rcases id G with ⟨e9, hb, _, _⟩ | ⟨e9, g, hg, e2, _, _⟩
  · exact hg_wmB hb (br_t e9 (hg_L207 hp I G H rfl))
  · rw [e2] at G ⊢
    exact hg_wmE hg H (fun _ => Or.inr rfl) (hg_z_wn g hg) (fun f' s' => br_f (by rw [e9]; decide) (hg_L207 hp I G H rfl))
theorem hg_L167 (hp : post 1 ()) (I : hg_I x0 x1 x7 x8) (G : hg_G x2 x9 x10 x11) (H : hg_H a1 0 0 0) (e : z1 = z0) : wL_lawOf_167 post mc ms x0 x1 x2 x3 x4 x5 x7 x8 x9 x10 x11 z0 z1 kc ks f a1 s := by
  refine br_t e ?_
  rcases id G with ⟨e9, hb, _, _⟩ | ⟨e9, g, hg, e2, _, _⟩
  · exact hg_winningB hb (br_t e9 (hg_L186 hp I G H rfl))
  · rw [e2] at G ⊢
    exact hg_winning hg H (fun _ => Or.inr rfl) (fun f' s' => br_f (by rw [e9]; decide) (hg_L186 hp I G H (by rw [hg_z_wn g hg]; rfl)))
theorem hg_L148 (hp : post 1 ()) (I : hg_I x0 x1 x7 x8) (G : hg_G x2 x9 x10 x11) (H : hg_H a1 0 0 0) (e : z1 = z0) : wL_lawOf_148 post mc ms x0 x1 x2 x3 x4 x5 x7 x8 x9 x10 x11 z0 z1 kc ks f a1 s := by
  refine br_t e ?_
  rcases id G with ⟨e9, hb, _, _⟩ | ⟨e9, g, hg, e2, _, _⟩
  · exact hg_movesB hb (br_t e9 (hg_L167 hp I G H rfl))
  · rw [e2] at G ⊢
    exact hg_moves hg H (fun _ => Or.inr rfl) (fun f' s' => br_f (by rw [e9]; decide) (hg_L167 hp I G H (by rw [hg_z_mv g hg]; rfl)))
theorem hg_L120 (hp : post 1 ()) (I : hg_I x0 x1 x7 x8) (G : hg_G x2 x9 x10 x11) (H : hg_H a1 0 0 0) (e : z1 = z0) : wL_lawOf_120 post mc ms x0 x1 x2 x3 x4 x5 x7 x8 x9 x10 x11 z0 z1 kc ks f a1 s := by
  refine br_t e ?_
  rcases id G with ⟨e9, hb, _, _⟩ | ⟨e9, g, hg, e2, _, _⟩
  · exact hg_wonB hb (br_t e9 (hg_L148 hp I G H rfl))
  · rw [e2] at G ⊢
    have w := hg_z_won g hg
    refine hg_wonW hg H (fun _ => Or.inr rfl) (br_f (by rw [e9]; decide) ?_)
    exact pk_eq g 1 (fun z => hg_L148 hp I G H (hg_B1 w z)) (fun z => hg_L148 hp I G H (hg_B0 w z))
theorem hg_L102 (hp : post 1 ()) (I : hg_I x0 x1 x7 x8) (G : hg_G x2 x9 x10 x11) (H : hg_H a1 0 0 0) : wL_lawOf_102 post mc ms x0 x1 x2 x3 x4 x5 x7 x8 x9 x10 x11 kc ks f a1 s := by
  unfold wL_lawOf_102
  rcases id I with ⟨e7, _, hb⟩ | ⟨e7, i, hi, e0, _⟩
  · exact hg_hasB hb (br_t e7 (hg_L120 hp I G H rfl))
  · have Z := hg_Z H 0
    have q : hg_h 0 0 i = 0 := ite_self 0
    rw [e0] at I ⊢
    exact hg_has hi (br_f (by rw [e7]; decide) (hg_L120 hp I G H (by rw [hg_at Z hi, q]; rfl)))
theorem hg_big {x : Int32} {a b : Int32} (h : a ≤ x) (hb : ¬ a ≤ b) : ¬ x ≤ b := fun z => hb (Int32.le_trans h z)
theorem hg_L45 (hp : post 1 ()) (I : hg_I x0 x1 x7 x8) (H : hg_H a1 0 0 0) : wL_lawOf_45 post mc ms x0 x1 x2 x3 x4 x5 x7 x8 kc ks f a1 s := by
  have bad : (x2 < 0 ∨ ¬ x2 ≤ 7) → wL_lawOf_62 post mc ms x0 x1 x2 x3 x4 x5 x7 x8 0 kc ks f a1 s := by
    intro hb
    refine br_f ?_ (br_f ?_ (br_t rfl (hg_L102 hp I (Or.inl ⟨rfl, hb, rfl, rfl⟩) H)))
    · intro z
      rw [z] at hb
      exact absurd hb (by decide)
    · intro z
      rw [z] at hb
      exact absurd hb (by decide)
  rcases pk_ix x2 (n := 8) (by omega) with h | h | ⟨g, hg, rfl⟩
  · exact br_t h (bad (Or.inl h))
  · exact br_c (fun _ => bad (Or.inr (hg_big h (by decide)))) (fun _ => br_t h (bad (Or.inr (hg_big h (by decide)))))
  · refine br_f (nI_pos (by omega)) (br_f (nI_ge (b := 8) hg (by omega)) ?_)
    have m79 : ∀ x10, x10 = hg_B (decide (g = 0 ∨ g = 7)) → wL_lawOf_79 post mc ms x0 x1 (nI g) x3 x4 x5 x7 x8 1 x10 kc ks f a1 s := by
      intro x10 e10
      refine br_f (by decide) (pk_eq g 3 (fun z => ?_) (fun z => pk_eq g 6 (fun y => ?_) (fun y => ?_)))
      · exact hg_L102 hp I (Or.inr ⟨rfl, g, hg, rfl, e10, (hg_B0 rfl (by omega)).symm⟩) H
      · exact hg_L102 hp I (Or.inr ⟨rfl, g, hg, rfl, e10, (hg_B0 rfl (by omega)).symm⟩) H
      · exact hg_L102 hp I (Or.inr ⟨rfl, g, hg, rfl, e10, (hg_B1 rfl ⟨z, y⟩).symm⟩) H
    exact pk_eq g 0 (fun z => m79 1 (hg_B1 rfl (by omega)).symm) (fun z => pk_eq g 7 (fun y => m79 1 (hg_B1 rfl (by omega)).symm) (fun y => m79 0 (hg_B0 rfl (by omega)).symm))
theorem hg_lawOf {p0 p1 p2 p3 p4 p5 : Int32} (hp : post 1 ()) : wpL_lawOf post 410 6544 () p0 p1 p2 p3 p4 p5 := by
  refine ⟨by omega, by omega, 2, 803, by omega, by omega, by omega, by omega, by omega, by omega, ?_⟩
  have H : hg_H (fun _ => 0) 0 0 0 := ⟨rfl, rfl, rfl, by omega, by omega, by omega⟩
  have bad : (p0 < 0 ∨ ¬ p0 ≤ 2) → wL_lawOf_22 post 410 6544 p0 p1 p2 p3 p4 p5 (1 + 2) (3 + 803) 0 (fun _ => 0) (fun _ => 0) := fun hb => br_t rfl (hg_L45 hp (Or.inl ⟨rfl, rfl, hb⟩) H)
  rcases pk_ix p0 (n := 3) (by omega) with h | h | ⟨i, hi, rfl⟩
  · exact br_t h (bad (Or.inl h))
  · exact br_c (fun _ => bad (Or.inr (hg_big h (by decide)))) (fun _ => br_t h (bad (Or.inr (hg_big h (by decide)))))
  · refine br_f (nI_pos (by omega)) (br_f (nI_ge (b := 3) hi (by omega)) (br_f (by decide) ?_))
    have b2 : (p1 < 0 ∨ ¬ p1 ≤ 15) → wL_lawOf_44 post 410 6544 (nI i) p1 p2 p3 p4 p5 1 (1 + 2) (3 + 803) 0 (fun _ => 0) (fun _ => 0) := fun hb => hg_L45 hp (Or.inr ⟨rfl, i, hi, rfl, Or.inl ⟨rfl, hb⟩⟩) H
    rcases pk_ix p1 (n := 16) (by omega) with h | h | ⟨n, hn, rfl⟩
    · exact br_t h (b2 (Or.inl h))
    · exact br_c (fun _ => b2 (Or.inr (hg_big h (by decide)))) (fun _ => br_t h (b2 (Or.inr (hg_big h (by decide)))))
    · exact br_f (nI_pos (by omega)) (br_f (nI_ge (b := 16) hn (by omega)) (hg_L45 hp (Or.inr ⟨rfl, i, hi, rfl, Or.inr ⟨rfl, n, hn, rfl⟩⟩) H))
end
theorem hg_cell {post : Int32 → Prop} {L k : Nat} {xs : Nat → Int32} {u : St0} (hL : L ≤ 6) (hk : k < 6) (hp : ∀ r, post r) : wpL_cellAt post L xs u (nI k) :=
  pk_le L k (fun _ => hp 0) (fun z => ⟨pk_in k L z, hp _⟩)
end
section
theorem i_vc (xs : Nat → Int32) (L : Nat) (hL : L ≤ 6) : wpL_law (fun r => r = 1) L xs := by
  unfold wpL_law
  exact hg_cell (k := 0) hL (by omega) (fun _ => hg_cell (k := 1) hL (by omega) (fun _ => hg_cell (k := 2) hL (by omega) (fun _ => hg_cell (k := 3) hL (by omega) (fun _ => hg_cell (k := 4) hL (by omega) (fun _ => hg_cell (k := 5) hL (by omega) (fun _ => ⟨410, 6544, by omega, by omega, hg_lawOf rfl⟩))))))
end
