section
/-! numbers and stores: pk_us .. pk_mul are rows of the kit to paste -/
theorem pk_us {f : Nat → Int32} {k : Nat} {x : Int32} : upd f k x k = x := if_pos rfl
theorem pk_un {f : Nat → Int32} {k j : Nat} {x : Int32} (h : j ≠ k) : upd f k x j = f j := if_neg h
theorem pk_m1 (n : Nat) : nI (n + 1) + (-1) = nI n := by
  rw [← nI_1, Int32.add_assoc, show (1 : Int32) + (-1) = 0 from rfl, Int32.add_zero]
theorem pk_mul (a b : Nat) : nI a * nI b = nI (a * b) := (Int32.ofNat_mul a b).symm

theorem zt_lt {x : Int32} {n : Nat} (h : vp_in x n) : x.toNatClampNeg < n := by
  unfold vp_in at h
  exact Nat.lt_of_not_le (fun z => h (Or.inr z))
theorem zt_mono {x : Int32} {n k : Nat} (h : vp_in x n) (hn : n ≤ k) : vp_in x k := by
  unfold vp_in at h ⊢
  exact fun z => h (z.imp id (fun z => Nat.le_trans hn z))
theorem zt_b0 : vp_nar .boolean 0 = 0 := rfl
theorem zt_b1 : vp_nar .boolean 1 = 1 := rfl
theorem zt_4 (a : Nat) : (4 : Int32) * nI a = nI (4 * a) := pk_mul 4 a
theorem zt_m1 (a : Nat) : nI a - 1 = nI a + (-1) := Int32.sub_eq_add_neg _ _
/-- base plus a parameter's number -/
theorem zt_ad {x : Int32} {b : Nat} (h : vp_in x 4) (hb : b + 4 ≤ 12) : vp_in (nI b + x) 12 ∧ (nI b + x).toNatClampNeg = b + x.toNatClampNeg := by
  obtain ⟨a, ha, rfl⟩ := vp_in_of h (by decide)
  rw [nI_add, nI_clamp (by omega), nI_clamp (by omega)]
  exact ⟨vp_in_nI (by omega) (by decide), rfl⟩
theorem zt_adN {a b : Nat} (h : a < 4) (hb : b + 4 ≤ 12) : vp_in (nI b + nI a) 12 ∧ (nI b + nI a).toNatClampNeg = b + a := by
  rw [nI_add, nI_clamp (by omega)]
  exact ⟨vp_in_nI (by omega) (by decide), rfl⟩
theorem zt_upd2 {f : Nat → Int32} {a b k : Nat} : upd (upd f a 1) b 1 k ≠ 0 ↔ (f k ≠ 0 ∨ a = k ∨ b = k) := by
  by_cases e : k = b
  · subst e
    rw [pk_us]
    exact ⟨fun _ => Or.inr (Or.inr rfl), fun _ => by decide⟩
  · rw [pk_un e]
    by_cases e2 : k = a
    · subst e2
      rw [pk_us]
      exact ⟨fun _ => Or.inr (Or.inl rfl), fun _ => by decide⟩
    · rw [pk_un e2]
      constructor
      · exact Or.inl
      · rintro (h | h | h)
        · exact h
        · exact absurd h.symm e2
        · exact absurd h.symm e

/-- the sum of the first n values -/
def zt_sum (f : Nat → Int32) : Nat → Int32
  | 0 => 0
  | n + 1 => zt_sum f n + f n
theorem zt_sum_congr {f g : Nat → Int32} : ∀ n : Nat, (∀ j, j < n → f j = g j) → zt_sum f n = zt_sum g n := by
  intro n
  induction n with
  | zero => intro _; rfl
  | succ n ih =>
    intro h
    show zt_sum f n + f n = zt_sum g n + g n
    rw [ih (fun j hj => h j (by omega)), h n (by omega)]
theorem zt_sum_zero {f : Nat → Int32} : ∀ n : Nat, (∀ j, j < n → f j = 0) → zt_sum f n = 0 := by
  intro n
  induction n with
  | zero => intro _; rfl
  | succ n ih =>
    intro h
    show zt_sum f n + f n = 0
    rw [ih (fun j hj => h j (by omega)), h n (by omega)]
    rfl
theorem zt_sum_out {h D : Nat → Int32} {a : Nat} {x : Int32} : ∀ n : Nat, n ≤ a → zt_sum (fun j => upd h a x j * D j) n = zt_sum (fun j => h j * D j) n := by
  intro n hn
  apply zt_sum_congr
  intro j hj
  show upd h a x j * D j = h j * D j
  rw [pk_un (by omega)]
theorem zt_sum_upd {h D : Nat → Int32} {a : Nat} {x : Int32} : ∀ n : Nat, a < n → zt_sum (fun j => upd h a (h a + x) j * D j) n = zt_sum (fun j => h j * D j) n + x * D a := by
  intro n
  induction n with
  | zero => intro hn; omega
  | succ n ih =>
    intro hn
    show zt_sum (fun j => upd h a (h a + x) j * D j) n + upd h a (h a + x) n * D n = zt_sum (fun j => h j * D j) n + h n * D n + x * D a
    by_cases e : n = a
    · subst e
      rw [zt_sum_out n (Nat.le_refl _), pk_us]
      grind
    · rw [ih (by omega), pk_un e]
      grind

/-! a function by recursion along the nodes -/
def zt_it (F : Nat → (Nat → Int32) → Int32) : Nat → (Nat → Int32)
  | 0 => fun _ => 0
  | k + 1 => upd (zt_it F k) k (F k (zt_it F k))
theorem zt_it_lo (F : Nat → (Nat → Int32) → Int32) : ∀ d k j : Nat, j < k → zt_it F (k + d) j = zt_it F k j := by
  intro d
  induction d with
  | zero => intro k j _; rfl
  | succ d ih =>
    intro k j hj
    show upd (zt_it F (k + d)) (k + d) _ j = _
    rw [pk_un (by omega)]
    exact ih k j hj
theorem zt_rec {F : Nat → (Nat → Int32) → Int32} {c : Nat} (hF : ∀ k, k < c → ∀ g h : Nat → Int32, (∀ j, j < k → g j = h j) → F k g = F k h) {k : Nat} (hk : k < c) : zt_it F c k = F k (zt_it F c) := by
  have e1 : zt_it F c k = zt_it F (k + 1) k := by
    have h := zt_it_lo F (c - (k + 1)) (k + 1) k (by omega)
    rw [show k + 1 + (c - (k + 1)) = c by omega] at h
    exact h
  rw [e1]
  show upd (zt_it F k) k (F k (zt_it F k)) k = _
  rw [pk_us]
  refine hF k hk _ _ (fun j hj => ?_)
  have h := zt_it_lo F (c - k) k j hj
  rw [show k + (c - k) = c by omega] at h
  exact h.symm
end
section
/-! the model language, without a program in sight -/
/-- a node's value from the values g of the nodes before it -/
def zt_F (kx lf rg P : Nat → Int32) (k : Nat) (g : Nat → Int32) : Int32 :=
  if kx k = 0 then P (lf k).toNatClampNeg else if kx k = 1 then lf k
  else if kx k = 2 then g (lf k).toNatClampNeg + g (rg k).toNatClampNeg
  else if kx k = 3 then g (lf k).toNatClampNeg - g (rg k).toNatClampNeg
  else g (lf k).toNatClampNeg * g (rg k).toNatClampNeg
/-- a node's change along the direction Q of the parameters, V the values -/
def zt_G (kx lf rg V Q : Nat → Int32) (k : Nat) (g : Nat → Int32) : Int32 :=
  if kx k = 0 then Q (lf k).toNatClampNeg else if kx k = 1 then 0
  else if kx k = 2 then g (lf k).toNatClampNeg + g (rg k).toNatClampNeg
  else if kx k = 3 then g (lf k).toNatClampNeg - g (rg k).toNatClampNeg
  else g (lf k).toNatClampNeg * V (rg k).toNatClampNeg + V (lf k).toNatClampNeg * g (rg k).toNatClampNeg
/-- the nodes are well made -/
def zt_ok (c : Nat) (kx lf rg : Nat → Int32) : Prop := ∀ k, k < c →
  (kx k = 0 ∧ vp_in (lf k) 4) ∨ kx k = 1 ∨ ((kx k = 2 ∨ kx k = 3 ∨ kx k = 4 ∨ kx k = 5) ∧ vp_in (lf k) k ∧ vp_in (rg k) k)
section
variable {c t : Nat} {kx lf rg tn tw P V Q g g' nd va : Nat → Int32} {k : Nat}
theorem zt_F0 (e : kx k = 0) : zt_F kx lf rg P k g = P (lf k).toNatClampNeg := if_pos e
theorem zt_F1 (e : kx k = 1) : zt_F kx lf rg P k g = lf k := by
  unfold zt_F
  rw [if_neg (by rw [e]; decide), if_pos e]
theorem zt_F2 (e : kx k = 2) : zt_F kx lf rg P k g = g (lf k).toNatClampNeg + g (rg k).toNatClampNeg := by
  unfold zt_F
  rw [if_neg (by rw [e]; decide), if_neg (by rw [e]; decide), if_pos e]
theorem zt_F3 (e : kx k = 3) : zt_F kx lf rg P k g = g (lf k).toNatClampNeg - g (rg k).toNatClampNeg := by
  unfold zt_F
  rw [if_neg (by rw [e]; decide), if_neg (by rw [e]; decide), if_neg (by rw [e]; decide), if_pos e]
theorem zt_F4 (e : kx k = 4 ∨ kx k = 5) : zt_F kx lf rg P k g = g (lf k).toNatClampNeg * g (rg k).toNatClampNeg := by
  unfold zt_F
  rcases e with e | e
  · rw [if_neg (by rw [e]; decide), if_neg (by rw [e]; decide), if_neg (by rw [e]; decide), if_neg (by rw [e]; decide)]
  · rw [if_neg (by rw [e]; decide), if_neg (by rw [e]; decide), if_neg (by rw [e]; decide), if_neg (by rw [e]; decide)]
theorem zt_G0 (e : kx k = 0) : zt_G kx lf rg V Q k g = Q (lf k).toNatClampNeg := if_pos e
theorem zt_G1 (e : kx k = 1) : zt_G kx lf rg V Q k g = 0 := by
  unfold zt_G
  rw [if_neg (by rw [e]; decide), if_pos e]
theorem zt_G2 (e : kx k = 2) : zt_G kx lf rg V Q k g = g (lf k).toNatClampNeg + g (rg k).toNatClampNeg := by
  unfold zt_G
  rw [if_neg (by rw [e]; decide), if_neg (by rw [e]; decide), if_pos e]
theorem zt_G3 (e : kx k = 3) : zt_G kx lf rg V Q k g = g (lf k).toNatClampNeg - g (rg k).toNatClampNeg := by
  unfold zt_G
  rw [if_neg (by rw [e]; decide), if_neg (by rw [e]; decide), if_neg (by rw [e]; decide), if_pos e]
theorem zt_G4 (e : kx k = 4 ∨ kx k = 5) : zt_G kx lf rg V Q k g = g (lf k).toNatClampNeg * V (rg k).toNatClampNeg + V (lf k).toNatClampNeg * g (rg k).toNatClampNeg := by
  unfold zt_G
  rcases e with e | e
  · rw [if_neg (by rw [e]; decide), if_neg (by rw [e]; decide), if_neg (by rw [e]; decide), if_neg (by rw [e]; decide)]
  · rw [if_neg (by rw [e]; decide), if_neg (by rw [e]; decide), if_neg (by rw [e]; decide), if_neg (by rw [e]; decide)]
theorem zt_4to (e : kx k = 2 ∨ kx k = 3 ∨ kx k = 4 ∨ kx k = 5) : kx k = 2 ∨ kx k = 3 ∨ (kx k = 4 ∨ kx k = 5) := e
/-- two sets of values that agree on a node's parts give one value -/
theorem zt_F_parts (ok : zt_ok c kx lf rg) (hk : k < c) (h : ¬ kx k < 2 → g (lf k).toNatClampNeg = g' (lf k).toNatClampNeg ∧ g (rg k).toNatClampNeg = g' (rg k).toNatClampNeg) : zt_F kx lf rg P k g = zt_F kx lf rg P k g' := by
  rcases ok k hk with ⟨e, _⟩ | e | ⟨e, _, _⟩
  · rw [zt_F0 e, zt_F0 e]
  · rw [zt_F1 e, zt_F1 e]
  · rcases e with e | e | e
    · obtain ⟨a, b⟩ := h (by rw [e]; decide)
      rw [zt_F2 e, zt_F2 e, a, b]
    · obtain ⟨a, b⟩ := h (by rw [e]; decide)
      rw [zt_F3 e, zt_F3 e, a, b]
    · obtain ⟨a, b⟩ := h (by rcases e with e | e <;> rw [e] <;> decide)
      rw [zt_F4 e, zt_F4 e, a, b]
theorem zt_G_parts {V' : Nat → Int32} (ok : zt_ok c kx lf rg) (hk : k < c) (h : ¬ kx k < 2 → g (lf k).toNatClampNeg = g' (lf k).toNatClampNeg ∧ g (rg k).toNatClampNeg = g' (rg k).toNatClampNeg ∧ V (lf k).toNatClampNeg = V' (lf k).toNatClampNeg ∧ V (rg k).toNatClampNeg = V' (rg k).toNatClampNeg) : zt_G kx lf rg V Q k g = zt_G kx lf rg V' Q k g' := by
  rcases ok k hk with ⟨e, _⟩ | e | ⟨e, _, _⟩
  · rw [zt_G0 e, zt_G0 e]
  · rw [zt_G1 e, zt_G1 e]
  · rcases e with e | e | e
    · obtain ⟨a, b, _, _⟩ := h (by rw [e]; decide)
      rw [zt_G2 e, zt_G2 e, a, b]
    · obtain ⟨a, b, _, _⟩ := h (by rw [e]; decide)
      rw [zt_G3 e, zt_G3 e, a, b]
    · obtain ⟨a, b, x, y⟩ := h (by rcases e with e | e <;> rw [e] <;> decide)
      rw [zt_G4 e, zt_G4 e, a, b, x, y]
/-- a node with parts has them before it -/
theorem zt_ok_p (ok : zt_ok c kx lf rg) (hk : k < c) (h : ¬ kx k < 2) : vp_in (lf k) k ∧ vp_in (rg k) k := by
  rcases ok k hk with ⟨e, _⟩ | e | ⟨_, a, b⟩
  · rw [e] at h; exact absurd (by decide) h
  · rw [e] at h; exact absurd (by decide) h
  · exact ⟨a, b⟩
end

/-- the nodes' values at the parameters P -/
def zt_V (c : Nat) (kx lf rg P : Nat → Int32) : Nat → Int32 := zt_it (zt_F kx lf rg P) c
/-- the nodes' changes along Q -/
def zt_D (c : Nat) (kx lf rg P Q : Nat → Int32) : Nat → Int32 := zt_it (zt_G kx lf rg (zt_V c kx lf rg P) Q) c
/-- the direction of one parameter -/
def zt_e (i : Nat) : Nat → Int32 := fun a => if a = i then 1 else 0
/-- the target: a sum over the terms -/
def zt_S (t : Nat) (tn tw g : Nat → Int32) : Int32 := zt_sum (fun j => tw j * g (tn j).toNatClampNeg) t
def zt_Z (c t : Nat) (kx lf rg tn tw P : Nat → Int32) : Int32 := zt_S t tn tw (zt_V c kx lf rg P)
def zt_T (c t : Nat) (kx lf rg tn tw P : Nat → Int32) (i : Nat) : Int32 := zt_S t tn tw (zt_D c kx lf rg P (zt_e i))
section
variable {c t : Nat} {kx lf rg tn tw P Q g g' nd va : Nat → Int32} {k : Nat}
theorem zt_V_eq (ok : zt_ok c kx lf rg) (hk : k < c) : zt_V c kx lf rg P k = zt_F kx lf rg P k (zt_V c kx lf rg P) := by
  refine zt_rec (F := zt_F kx lf rg P) (fun k hk g h e => ?_) hk
  refine zt_F_parts ok hk (fun hp => ?_)
  obtain ⟨a, b⟩ := zt_ok_p ok hk hp
  exact ⟨e _ (zt_lt a), e _ (zt_lt b)⟩
theorem zt_D_eq (ok : zt_ok c kx lf rg) (hk : k < c) : zt_D c kx lf rg P Q k = zt_G kx lf rg (zt_V c kx lf rg P) Q k (zt_D c kx lf rg P Q) := by
  refine zt_rec (F := zt_G kx lf rg (zt_V c kx lf rg P) Q) (fun k hk g h e => ?_) hk
  refine zt_G_parts ok hk (fun hp => ?_)
  obtain ⟨a, b⟩ := zt_ok_p ok hk hp
  exact ⟨e _ (zt_lt a), e _ (zt_lt b), rfl, rfl⟩
/-- the change along Q is made of the four slopes -/
theorem zt_lin (ok : zt_ok c kx lf rg) : ∀ d k, k < d → k < c → zt_D c kx lf rg P Q k = Q 0 * zt_D c kx lf rg P (zt_e 0) k + Q 1 * zt_D c kx lf rg P (zt_e 1) k + Q 2 * zt_D c kx lf rg P (zt_e 2) k + Q 3 * zt_D c kx lf rg P (zt_e 3) k := by
  intro d
  induction d with
  | zero => intro k h; omega
  | succ d ih =>
    intro k h hk
    rw [zt_D_eq (Q := Q) ok hk, zt_D_eq (Q := zt_e 0) ok hk, zt_D_eq (Q := zt_e 1) ok hk, zt_D_eq (Q := zt_e 2) ok hk, zt_D_eq (Q := zt_e 3) ok hk]
    rcases ok k hk with ⟨e, hl⟩ | e | ⟨e, hl, hr⟩
    · simp only [zt_G0 e]
      have h4 := zt_lt hl
      generalize (lf k).toNatClampNeg = a at h4
      have h5 : a = 0 ∨ a = 1 ∨ a = 2 ∨ a = 3 := by omega
      rcases h5 with rfl | rfl | rfl | rfl
      · show Q 0 = Q 0 * 1 + Q 1 * 0 + Q 2 * 0 + Q 3 * 0
        grind
      · show Q 1 = Q 0 * 0 + Q 1 * 1 + Q 2 * 0 + Q 3 * 0
        grind
      · show Q 2 = Q 0 * 0 + Q 1 * 0 + Q 2 * 1 + Q 3 * 0
        grind
      · show Q 3 = Q 0 * 0 + Q 1 * 0 + Q 2 * 0 + Q 3 * 1
        grind
    · simp only [zt_G1 e]
      grind
    · have a := ih _ (Nat.lt_of_lt_of_le (zt_lt hl) (by omega)) (Nat.lt_trans (zt_lt hl) hk)
      have b := ih _ (Nat.lt_of_lt_of_le (zt_lt hr) (by omega)) (Nat.lt_trans (zt_lt hr) hk)
      rcases e with e | e | e
      · simp only [zt_G2 e]
        rw [a, b]
        grind
      · simp only [zt_G3 e]
        rw [a, b]
        grind
      · simp only [zt_G4 e]
        rw [a, b]
        grind
theorem zt_lin_S (ok : zt_ok c kx lf rg) : ∀ t, (∀ j, j < t → vp_in (tn j) c) → zt_S t tn tw (zt_D c kx lf rg P Q) = Q 0 * zt_T c t kx lf rg tn tw P 0 + Q 1 * zt_T c t kx lf rg tn tw P 1 + Q 2 * zt_T c t kx lf rg tn tw P 2 + Q 3 * zt_T c t kx lf rg tn tw P 3 := by
  intro t
  induction t with
  | zero =>
    intro _
    show (0 : Int32) = Q 0 * 0 + Q 1 * 0 + Q 2 * 0 + Q 3 * 0
    grind
  | succ t ih =>
    intro h
    have a := ih (fun j hj => h j (by omega))
    have b := zt_lin (P := P) (Q := Q) ok c _ (zt_lt (h t (by omega))) (zt_lt (h t (by omega)))
    have s : ∀ g : Nat → Int32, zt_S (t + 1) tn tw g = zt_S t tn tw g + tw t * g (tn t).toNatClampNeg := fun _ => rfl
    unfold zt_T at a ⊢
    rw [s, s, s, s, s, a, b]
    grind

/-! the marks: a fixpoint; s is the stage of the sweep from the last node to the first -/
def zt_ND (s c t : Nat) (kx lf rg tn nd : Nat → Int32) : Prop := ∀ k, k < c → (nd k ≠ 0 ↔ (∃ j, j < t ∧ (tn j).toNatClampNeg = k) ∨ ∃ m, s ≤ m ∧ m < c ∧ nd m ≠ 0 ∧ ¬ kx m < 2 ∧ ((lf m).toNatClampNeg = k ∨ (rg m).toNatClampNeg = k))
def zt_TM (tn : Nat → Int32) (i : Nat) (nd : Nat → Int32) : Prop := ∀ k, k < 24 → (nd k ≠ 0 ↔ ∃ j, j < i ∧ (tn j).toNatClampNeg = k)
theorem zt_TM_0 (h : ∀ j, j < 24 → nd j = 0) : zt_TM tn 0 nd := by
  intro k hk
  constructor
  · intro z; exact absurd (h k hk) z
  · rintro ⟨j, a, _⟩; omega
theorem zt_TM_s {i : Nat} (h : zt_TM tn i nd) : zt_TM tn (i + 1) (upd nd (tn i).toNatClampNeg 1) := by
  intro k hk
  by_cases e : k = (tn i).toNatClampNeg
  · subst e
    rw [pk_us]
    exact ⟨fun _ => ⟨i, by omega, rfl⟩, fun _ => by decide⟩
  · rw [pk_un e, h k hk]
    constructor
    · rintro ⟨j, a, b⟩; exact ⟨j, by omega, b⟩
    · rintro ⟨j, a, b⟩
      refine ⟨j, ?_, b⟩
      rcases Nat.lt_or_ge j i with z | z
      · exact z
      · exfalso
        have : j = i := by omega
        rw [this] at b
        exact e b.symm
theorem zt_TM_ND (hc : c ≤ 24) (h : zt_TM tn t nd) : zt_ND c c t kx lf rg tn nd := by
  intro k hk
  refine (h k (by omega)).trans ⟨Or.inl, ?_⟩
  rintro (z | ⟨m, a, b, _⟩)
  · exact z
  · omega
theorem zt_ND_skip {s : Nat} (h : zt_ND (s + 1) c t kx lf rg tn nd) (hz : nd s = 0 ∨ kx s < 2) : zt_ND s c t kx lf rg tn nd := by
  intro k hk
  refine (h k hk).trans (or_congr Iff.rfl ⟨?_, ?_⟩)
  · rintro ⟨m, h1, h2⟩; exact ⟨m, by omega, h2⟩
  · rintro ⟨m, h1, h2, h3, h4, h5⟩
    refine ⟨m, ?_, h2, h3, h4, h5⟩
    rcases Nat.lt_or_ge s m with q | q
    · exact q
    · have e : m = s := by omega
      rw [e] at h3 h4
      rcases hz with z | z
      · exact absurd z h3
      · exact absurd z h4
theorem zt_ND_mark {s : Nat} (h : zt_ND (s + 1) c t kx lf rg tn nd) (hs : s < c) (hn : nd s ≠ 0) (hp : ¬ kx s < 2) (hl : vp_in (lf s) s) (hr : vp_in (rg s) s) : zt_ND s c t kx lf rg tn (upd (upd nd (lf s).toNatClampNeg 1) (rg s).toNatClampNeg 1) := by
  have hl := zt_lt hl
  have hr := zt_lt hr
  have e2 : ∀ m, s ≤ m → upd (upd nd (lf s).toNatClampNeg 1) (rg s).toNatClampNeg 1 m = nd m := by
    intro m hm
    rw [pk_un (by omega), pk_un (by omega)]
  intro k hk
  refine zt_upd2.trans ⟨?_, ?_⟩
  · rintro (h1 | h1 | h1)
    · rcases (h k hk).mp h1 with h2 | ⟨m, a, b, d, f, g⟩
      · exact Or.inl h2
      · exact Or.inr ⟨m, by omega, b, by rw [e2 m (by omega)]; exact d, f, g⟩
    · exact Or.inr ⟨s, Nat.le_refl _, hs, by rw [e2 s (Nat.le_refl _)]; exact hn, hp, Or.inl h1⟩
    · exact Or.inr ⟨s, Nat.le_refl _, hs, by rw [e2 s (Nat.le_refl _)]; exact hn, hp, Or.inr h1⟩
  · rintro (h1 | ⟨m, a, b, d, f, g⟩)
    · exact Or.inl ((h k hk).mpr (Or.inl h1))
    · rw [e2 m a] at d
      rcases Nat.lt_or_ge s m with q | q
      · exact Or.inl ((h k hk).mpr (Or.inr ⟨m, q, b, d, f, g⟩))
      · have e : m = s := by omega
        rw [e] at g
        exact Or.inr g
/-- the fixpoint is one: at stage s the marks from s - 1 on stand -/
theorem zt_ND_agree {s : Nat} {U : Nat → Int32} (ok : zt_ok c kx lf rg) (h : zt_ND s c t kx lf rg tn nd) (hU : zt_ND 0 c t kx lf rg tn U) : ∀ d k, c ≤ k + d → s ≤ k + 1 → k < c → (nd k ≠ 0 ↔ U k ≠ 0) := by
  intro d
  induction d with
  | zero => intro k h1 h2 h3; omega
  | succ d ih =>
    intro k h1 h2 h3
    refine (h k h3).trans ((or_congr Iff.rfl ⟨?_, ?_⟩).trans (hU k h3).symm)
    · rintro ⟨m, a, b, d1, f, g⟩
      have hm : k < m := by
        obtain ⟨x, y⟩ := zt_ok_p ok b f
        have x := zt_lt x
        have y := zt_lt y
        omega
      exact ⟨m, Nat.zero_le _, b, (ih m (by omega) (by omega) b).mp d1, f, g⟩
    · rintro ⟨m, a, b, d1, f, g⟩
      have hm : k < m := by
        obtain ⟨x, y⟩ := zt_ok_p ok b f
        have x := zt_lt x
        have y := zt_lt y
        omega
      exact ⟨m, by omega, b, (ih m (by omega) (by omega) b).mpr d1, f, g⟩
theorem zt_ND_cl (ok : zt_ok c kx lf rg) (h : zt_ND 0 c t kx lf rg tn nd) (hk : k < c) (hn : nd k ≠ 0) (hp : ¬ kx k < 2) : nd (lf k).toNatClampNeg ≠ 0 ∧ nd (rg k).toNatClampNeg ≠ 0 := by
  obtain ⟨x, y⟩ := zt_ok_p ok hk hp
  exact ⟨(h _ (Nat.lt_trans (zt_lt x) hk)).mpr (Or.inr ⟨k, Nat.zero_le _, hk, hn, hp, Or.inl rfl⟩), (h _ (Nat.lt_trans (zt_lt y) hk)).mpr (Or.inr ⟨k, Nat.zero_le _, hk, hn, hp, Or.inr rfl⟩)⟩
theorem zt_ND_tm {j : Nat} (h : zt_ND 0 c t kx lf rg tn nd) (ht : ∀ j, j < t → vp_in (tn j) c) (hj : j < t) : nd (tn j).toNatClampNeg ≠ 0 := (h _ (zt_lt (ht j hj))).mpr (Or.inl ⟨j, hj, rfl⟩)
/-- values that are right where they are needed give the sum over the terms -/
theorem zt_S_nd (h : zt_ND 0 c t kx lf rg tn nd) (ht : ∀ j, j < t → vp_in (tn j) c) (hv : ∀ k, k < c → nd k ≠ 0 → g k = g' k) : zt_S t tn tw g = zt_S t tn tw g' := by
  apply zt_sum_congr
  intro j hj
  show tw j * g (tn j).toNatClampNeg = tw j * g' (tn j).toNatClampNeg
  rw [hv _ (zt_lt (ht j hj)) (zt_ND_tm h ht hj)]
theorem zt_S_all (ht : ∀ j, j < t → vp_in (tn j) c) (hv : ∀ k, k < c → g k = g' k) : zt_S t tn tw g = zt_S t tn tw g' := by
  apply zt_sum_congr
  intro j hj
  show tw j * g (tn j).toNatClampNeg = tw j * g' (tn j).toNatClampNeg
  rw [hv _ (zt_lt (ht j hj))]
end
def zt_ind (U : Nat → Int32) : Nat → Int32 := fun j => if U j = 0 then 0 else 1
theorem zt_ind0 {U : Nat → Int32} {j : Nat} (h : U j = 0) : zt_ind U j = 0 := if_pos h
theorem zt_ind1 {U : Nat → Int32} {j : Nat} (h : ¬ U j = 0) : zt_ind U j = 1 := if_neg h

/-! the sweep backward: what it keeps -/
def zt_inv (s c : Nat) (nd : Nat → Int32) (D : Nat → Nat → Int32) (T : Nat → Int32) (sh sl : Nat → Int32) : Prop := (∀ k, k < c → nd k = 0 → sh k = 0) ∧ ∀ i, i < 4 → sl i + zt_sum (fun j => sh j * D i j) s = T i
section
variable {s c : Nat} {nd T sh sl : Nat → Int32} {D : Nat → Nat → Int32}
theorem zt_inv_skip (h : zt_inv (s + 1) c nd D T sh sl) (hs : s < c) (hz : nd s = 0 ∨ ∀ i, i < 4 → D i s = 0) : zt_inv s c nd D T sh sl := by
  refine ⟨h.1, fun i hi => ?_⟩
  have e := h.2 i hi
  have e2 : zt_sum (fun j => sh j * D i j) (s + 1) = zt_sum (fun j => sh j * D i j) s + sh s * D i s := rfl
  have e3 : sh s * D i s = 0 := by
    rcases hz with z | z
    · rw [h.1 s hs z]; grind
    · rw [z i hi]; grind
  rw [e2, e3] at e
  grind
theorem zt_inv_par {a : Nat} (h : zt_inv (s + 1) c nd D T sh sl) (hD : ∀ i, i < 4 → D i s = zt_e i a) : zt_inv s c nd D T sh (upd sl a (sl a + sh s)) := by
  refine ⟨h.1, fun i hi => ?_⟩
  have e := h.2 i hi
  have e2 : zt_sum (fun j => sh j * D i j) (s + 1) = zt_sum (fun j => sh j * D i j) s + sh s * D i s := rfl
  rw [e2, hD i hi] at e
  by_cases q : i = a
  · subst q
    rw [pk_us]
    rw [show zt_e i i = 1 from if_pos rfl] at e
    grind
  · rw [pk_un q]
    rw [show zt_e i a = 0 from if_neg (fun z => q z.symm)] at e
    grind
theorem zt_inv_two {a b : Nat} {x y : Int32} (h : zt_inv (s + 1) c nd D T sh sl) (hs : s < c) (ha : a < s) (hb : b < s) (na : nd a ≠ 0) (nb : nd b ≠ 0) (hD : ∀ i, i < 4 → sh s * D i s = x * D i a + y * D i b) : zt_inv s c nd D T (upd (upd sh a (sh a + x)) b (upd sh a (sh a + x) b + y)) sl := by
  refine ⟨fun k hk hz => ?_, fun i hi => ?_⟩
  · rw [pk_un (fun z => nb (by rw [← z]; exact hz)), pk_un (fun z => na (by rw [← z]; exact hz))]
    exact h.1 k hk hz
  · have e := h.2 i hi
    have e2 : zt_sum (fun j => sh j * D i j) (s + 1) = zt_sum (fun j => sh j * D i j) s + sh s * D i s := rfl
    rw [e2, hD i hi] at e
    rw [zt_sum_upd (h := upd sh a (sh a + x)) (D := D i) s hb, zt_sum_upd (D := D i) s ha]
    grind
end
end
section
/-! the relation -/
def zt_kk (c : Nat) (kx ky : Nat → Int32) : Prop := ∀ k, k < c → (kx k = 0 ∧ ky k = 4) ∨ (kx k = 1 ∧ ky k = 5) ∨ (kx k = 2 ∧ ky k = 0) ∨ (kx k = 3 ∧ ky k = 1) ∨ (kx k = 4 ∧ ky k = 2) ∨ (kx k = 5 ∧ ky k = 3)
def zt_M (c t : Nat) (kx ky lf rg tn : Nat → Int32) : Prop := c ≤ 24 ∧ t ≤ 8 ∧ zt_ok c kx lf rg ∧ zt_kk c kx ky ∧ ∀ j, j < t → vp_in (tn j) c
/-- both sides keep the same model, the same chains; the marks are right where they are said to be -/
def i_Rel (_ : Nat) (u : SX) (v : SY) : Prop := ∃ (c t : Nat) (q m : Int32) (kx ky lf rg tn tw ps mo va sh cg nd sl vb rb sb us : Nat → Int32),
  u = (nI c, nI t, q, m, kx, lf, rg, tn, tw, ps, mo, va, sh, cg, nd, sl) ∧ v = (nI c, nI t, q, ky, lf, rg, tn, tw, ps, mo, vb, rb, sb, us) ∧ zt_M c t kx ky lf rg tn ∧ (m = 0 ∨ zt_ND 0 c t kx lf rg tn nd)
theorem zt_el {k : Nat} {u : SX} {v : SY} {F : SX → SY → Prop} (h : ∀ (c t : Nat) (q m : Int32) (kx ky lf rg tn tw ps mo va sh cg nd sl vb rb sb us : Nat → Int32), zt_M c t kx ky lf rg tn → (m = 0 ∨ zt_ND 0 c t kx lf rg tn nd) → F (nI c, nI t, q, m, kx, lf, rg, tn, tw, ps, mo, va, sh, cg, nd, sl) (nI c, nI t, q, ky, lf, rg, tn, tw, ps, mo, vb, rb, sb, us)) (I : i_Rel k u v) : F u v := by
  unfold i_Rel at I
  obtain ⟨c, t, q, m, kx, ky, lf, rg, tn, tw, ps, mo, va, sh, cg, nd, sl, vb, rb, sb, us, eu, ev, hM, hn⟩ := I
  rw [eu, ev]
  exact h c t q m kx ky lf rg tn tw ps mo va sh cg nd sl vb rb sb us hM hn
theorem zt_in {k c t : Nat} {q m : Int32} {kx ky lf rg tn tw ps mo va sh cg nd sl vb rb sb us : Nat → Int32} (hM : zt_M c t kx ky lf rg tn) (hn : m = 0 ∨ zt_ND 0 c t kx lf rg tn nd) : i_Rel k (nI c, nI t, q, m, kx, lf, rg, tn, tw, ps, mo, va, sh, cg, nd, sl) (nI c, nI t, q, ky, lf, rg, tn, tw, ps, mo, vb, rb, sb, us) :=
  ⟨c, t, q, m, kx, ky, lf, rg, tn, tw, ps, mo, va, sh, cg, nd, sl, vb, rb, sb, us, rfl, rfl, hM, hn⟩
theorem i_up {k : Nat} {u : SX} {v : SY} (h : i_Rel k u v) : i_Rel (k + 4) u v := h
theorem zt_M0 {kx ky lf rg tn : Nat → Int32} : zt_M 0 0 kx ky lf rg tn := ⟨by omega, by omega, fun k h => by omega, fun k h => by omega, fun k h => by omega⟩
theorem i_vc0 : wpX_init (fun u => wpY_init (fun v => i_Rel 0 u v)) := zt_in (k := 0) (c := 0) (t := 0) zt_M0 (Or.inl rfl)

/-! the tests -/
theorem zt_chain (p : Int32) : (∃ h : Nat, h < 3 ∧ p = nI h ∧ (∀ post : Int32 → Prop, post 1 → wpX_isChain post p) ∧ (∀ (post : Int32 → Prop) (u : SY), post 0 → wpY_badChain post u p)) ∨ ((∀ post : Int32 → Prop, post 0 → wpX_isChain post p) ∧ (∀ (post : Int32 → Prop) (u : SY), post 1 → wpY_badChain post u p)) := by
  by_cases h0 : p < 0
  · refine Or.inr ⟨fun post hp => br_t h0 hp, fun post u hp => ?_⟩
    obtain ⟨a1, a2, a3, a4, a5, a6, a7, a8, a9, b1, b2, b3, b4, b5⟩ := u
    exact br_t h0 hp
  · obtain ⟨h, hh, rfl⟩ := nI_of h0
    by_cases h2 : h < 3
    · refine Or.inl ⟨h, h2, rfl, fun post hp => br_f h0 (br_f (nI_nlt (b := h) (a := 2) (by omega) (by decide)) hp), fun post u hp => ?_⟩
      obtain ⟨a1, a2, a3, a4, a5, a6, a7, a8, a9, b1, b2, b3, b4, b5⟩ := u
      exact br_f h0 (br_t (nI_le (b := 2) (by omega) (by decide)) hp)
    · refine Or.inr ⟨fun post hp => br_f h0 (br_t (nI_lt (a := 2) (by omega) hh) hp), fun post u hp => ?_⟩
      obtain ⟨a1, a2, a3, a4, a5, a6, a7, a8, a9, b1, b2, b3, b4, b5⟩ := u
      exact br_f h0 (br_f (nI_ge (a := 2) (by omega) hh) hp)
theorem zt_param (p : Int32) : (∃ h : Nat, h < 4 ∧ p = nI h ∧ (∀ post : Int32 → Prop, post 1 → wpX_isParameter post p) ∧ (∀ (post : Int32 → Prop) (u : SY), post 0 → wpY_badParameter post u p)) ∨ ((∀ post : Int32 → Prop, post 0 → wpX_isParameter post p) ∧ (∀ (post : Int32 → Prop) (u : SY), post 1 → wpY_badParameter post u p)) := by
  by_cases h0 : p < 0
  · refine Or.inr ⟨fun post hp => br_t h0 hp, fun post u hp => ?_⟩
    obtain ⟨a1, a2, a3, a4, a5, a6, a7, a8, a9, b1, b2, b3, b4, b5⟩ := u
    exact br_t h0 hp
  · obtain ⟨h, hh, rfl⟩ := nI_of h0
    by_cases h2 : h < 4
    · refine Or.inl ⟨h, h2, rfl, fun post hp => br_f h0 (br_f (nI_ge (b := 4) (by omega) (by decide)) hp), fun post u hp => ?_⟩
      obtain ⟨a1, a2, a3, a4, a5, a6, a7, a8, a9, b1, b2, b3, b4, b5⟩ := u
      exact br_f h0 (br_t (nI_le (b := 3) (by omega) (by decide)) hp)
    · refine Or.inr ⟨fun post hp => br_f h0 (br_t (nI_le (a := 4) (by omega) hh) hp), fun post u hp => ?_⟩
      obtain ⟨a1, a2, a3, a4, a5, a6, a7, a8, a9, b1, b2, b3, b4, b5⟩ := u
      exact br_f h0 (br_f (nI_ge (a := 3) (by omega) hh) hp)
section
variable {c t : Nat} {q m : Int32} {kx ky lf rg tn tw ps mo va sh cg nd sl vb rb sb us : Nat → Int32}
theorem zt_node (hc : c ≤ 24) (p : Int32) : (∃ h : Nat, h < c ∧ p = nI h ∧ (∀ post : Int32 → Prop, post 1 → wpX_isNode post (nI c, nI t, q, m, kx, lf, rg, tn, tw, ps, mo, va, sh, cg, nd, sl) p) ∧ (∀ post : Int32 → Prop, post 0 → wpY_badNode post (nI c, nI t, q, ky, lf, rg, tn, tw, ps, mo, vb, rb, sb, us) p)) ∨ ((∀ post : Int32 → Prop, post 0 → wpX_isNode post (nI c, nI t, q, m, kx, lf, rg, tn, tw, ps, mo, va, sh, cg, nd, sl) p) ∧ (∀ post : Int32 → Prop, post 1 → wpY_badNode post (nI c, nI t, q, ky, lf, rg, tn, tw, ps, mo, vb, rb, sb, us) p)) := by
  by_cases h0 : p < 0
  · exact Or.inr ⟨fun post hp => br_t h0 hp, fun post hp => br_t h0 hp⟩
  · obtain ⟨h, hh, rfl⟩ := nI_of h0
    by_cases h2 : h < c
    · exact Or.inl ⟨h, h2, rfl, fun post hp => br_f h0 (br_f (nI_ge (by omega) (by omega)) hp), fun post hp => br_f h0 (br_f (nI_ge (by omega) (by omega)) (br_t (nI_le (b := 23) (by omega) (by decide)) hp))⟩
    · exact Or.inr ⟨fun post hp => br_f h0 (br_t (nI_le (by omega) hh) hp), fun post hp => br_f h0 (br_t (nI_le (by omega) hh) hp)⟩
/-- a new node -/
theorem zt_M_new {x y a b : Int32} (hM : zt_M c t kx ky lf rg tn) (hc : c < 24) (h1 : (x = 0 ∧ vp_in a 4) ∨ x = 1 ∨ ((x = 2 ∨ x = 3 ∨ x = 4 ∨ x = 5) ∧ vp_in a c ∧ vp_in b c)) (h2 : (x = 0 ∧ y = 4) ∨ (x = 1 ∧ y = 5) ∨ (x = 2 ∧ y = 0) ∨ (x = 3 ∧ y = 1) ∨ (x = 4 ∧ y = 2) ∨ (x = 5 ∧ y = 3)) : zt_M (c + 1) t (upd kx c x) (upd ky c y) (upd lf c a) (upd rg c b) tn := by
  obtain ⟨_, ht, ok, kk, tk⟩ := hM
  refine ⟨by omega, ht, fun k hk => ?_, fun k hk => ?_, fun j hj => zt_mono (tk j hj) (by omega)⟩
  · by_cases e : k = c
    · rw [e, pk_us, pk_us, pk_us]
      exact h1
    · rw [pk_un e, pk_un e, pk_un e]
      exact ok k (by omega)
  · by_cases e : k = c
    · rw [e, pk_us, pk_us]
      exact h2
    · rw [pk_un e, pk_un e]
      exact kk k (by omega)
/-- make on both sides -/
theorem zt_make {k : Nat} {x y a b : Int32} (hM : zt_M c t kx ky lf rg tn) (hn : m = 0 ∨ zt_ND 0 c t kx lf rg tn nd) (h1 : (x = 0 ∧ vp_in a 4) ∨ x = 1 ∨ ((x = 2 ∨ x = 3 ∨ x = 4 ∨ x = 5) ∧ vp_in a c ∧ vp_in b c)) (h2 : (x = 0 ∧ y = 4) ∨ (x = 1 ∧ y = 5) ∨ (x = 2 ∧ y = 0) ∨ (x = 3 ∧ y = 1) ∨ (x = 4 ∧ y = 2) ∨ (x = 5 ∧ y = 3)) : ∃ (r : Int32) (u' : SX) (v' : SY), i_Rel k u' v' ∧ (∀ post : Int32 → SX → Prop, post r u' → wpX_make post (nI c, nI t, q, m, kx, lf, rg, tn, tw, ps, mo, va, sh, cg, nd, sl) x a b) ∧ (∀ post : Int32 → SY → Prop, post r v' → wpY_make post (nI c, nI t, q, ky, lf, rg, tn, tw, ps, mo, vb, rb, sb, us) y a b) := by
  have hc := hM.1
  by_cases h : c < 24
  · have i24 : vp_in (nI c) 24 := vp_in_nI h (by decide)
    have cl : (nI c).toNatClampNeg = c := nI_clamp (by omega)
    have ne : ¬ nI c = 24 := fun z => by
      have z2 : nI c = nI 24 := z
      rw [nI_eq (by omega) (by omega)] at z2
      omega
    refine ⟨nI c, (nI (c + 1), nI t, q, 0, upd kx c x, upd lf c a, upd rg c b, tn, tw, ps, mo, va, sh, cg, nd, sl), (nI (c + 1), nI t, q, upd ky c y, upd lf c a, upd rg c b, tn, tw, ps, mo, vb, rb, sb, us), zt_in (zt_M_new hM h h1 h2) (Or.inl rfl), fun post hp => ?_, fun post hp => ?_⟩
    · refine br_f ne ⟨i24, nm_r (congrArg (fun z => upd kx z x) cl) ⟨i24, nm_r (congrArg (fun z => upd lf z a) cl) ⟨i24, nm_r (congrArg (fun z => upd rg z b) cl) (nm_r (nI_1 c) ?_)⟩⟩⟩
      rw [nI_pred]
      exact hp
    · exact br_t (nI_le (b := 23) (by omega) (by decide)) ⟨i24, nm_r (congrArg (fun z => upd ky z y) cl) ⟨i24, nm_r (congrArg (fun z => upd lf z a) cl) ⟨i24, nm_r (congrArg (fun z => upd rg z b) cl) (nm_r (nI_1 c) hp)⟩⟩⟩
  · have e : c = 24 := by omega
    have e2 : nI c = 24 := by rw [e]; rfl
    exact ⟨-2, _, _, zt_in hM hn, fun post hp => br_t e2 hp, fun post hp => br_f (nI_ge (a := 23) (by omega) (by omega)) hp⟩
end
end
section
/-! the methods without loops -/
theorem i_vc_parameter {k : Nat} {u : SX} {v : SY} (I : i_Rel k u v) (hk : k + 4 ≤ 2048) (v1 : Int32) : wpX_parameter (fun r u' => wpY_parameter (fun r' v' => r' = r ∧ i_Rel (k + 4) u' v') v v1) u v1 := by
  refine zt_el (F := fun u v => wpX_parameter (fun r u' => wpY_parameter (fun r' v' => r' = r ∧ i_Rel (k + 4) u' v') v v1) u v1) ?_ I
  intro c t q m kx ky lf rg tn tw ps mo va sh cg nd sl vb rb sb us hM hn
  unfold wpX_parameter wpY_parameter
  dsimp only
  rcases zt_param v1 with ⟨h, hh, rfl, hX, hY⟩ | ⟨hX, hY⟩
  · obtain ⟨r, u', v', hR, mX, mY⟩ := zt_make (k := k + 4) (q := q) (x := 0) (y := 4) (a := nI h) (b := 0) (tw := tw) (ps := ps) (mo := mo) (va := va) (sh := sh) (cg := cg) (sl := sl) (vb := vb) (rb := rb) (sb := sb) (us := us) hM hn (Or.inl ⟨rfl, vp_in_nI hh (by decide)⟩) (Or.inl ⟨rfl, rfl⟩)
    refine hX _ (br_f (by decide) (mX _ ?_))
    obtain ⟨a1, a2, a3, a4, a5, a6, a7, a8, a9, b1, b2, b3, b4, b5, b6, b7⟩ := u'
    refine hY _ _ (br_t rfl (mY _ ?_))
    obtain ⟨d1, d2, d3, d4, d5, d6, d7, d8, d9, e1, e2, e3, e4, e5⟩ := v'
    exact ⟨rfl, hR⟩
  · exact hX _ (br_t rfl (hY _ _ (br_f (by decide) ⟨rfl, zt_in hM hn⟩)))
theorem i_vc_constant {k : Nat} {u : SX} {v : SY} (I : i_Rel k u v) (hk : k + 4 ≤ 2048) (v1 : Int32) : wpX_constant (fun r u' => wpY_constant (fun r' v' => r' = r ∧ i_Rel (k + 4) u' v') v v1) u v1 := by
  refine zt_el (F := fun u v => wpX_constant (fun r u' => wpY_constant (fun r' v' => r' = r ∧ i_Rel (k + 4) u' v') v v1) u v1) ?_ I
  intro c t q m kx ky lf rg tn tw ps mo va sh cg nd sl vb rb sb us hM hn
  unfold wpX_constant wpY_constant
  dsimp only
  obtain ⟨r, u', v', hR, mX, mY⟩ := zt_make (k := k + 4) (q := q) (x := 1) (y := 5) (a := v1) (b := 0) (tw := tw) (ps := ps) (mo := mo) (va := va) (sh := sh) (cg := cg) (sl := sl) (vb := vb) (rb := rb) (sb := sb) (us := us) hM hn (Or.inr (Or.inl rfl)) (Or.inr (Or.inl ⟨rfl, rfl⟩))
  refine mX _ ?_
  obtain ⟨a1, a2, a3, a4, a5, a6, a7, a8, a9, b1, b2, b3, b4, b5, b6, b7⟩ := u'
  refine mY _ ?_
  obtain ⟨d1, d2, d3, d4, d5, d6, d7, d8, d9, e1, e2, e3, e4, e5⟩ := v'
  exact ⟨rfl, hR⟩
theorem i_vc_combine {k : Nat} {u : SX} {v : SY} (I : i_Rel k u v) (hk : k + 4 ≤ 2048) (v1 : Int32) (v2 : Int32) (v3 : Int32) : wpX_combine (fun r u' => wpY_combine (fun r' v' => r' = r ∧ i_Rel (k + 4) u' v') v v1 v2 v3) u v1 v2 v3 := by
  refine zt_el (F := fun u v => wpX_combine (fun r u' => wpY_combine (fun r' v' => r' = r ∧ i_Rel (k + 4) u' v') v v1 v2 v3) u v1 v2 v3) ?_ I
  intro c t q m kx ky lf rg tn tw ps mo va sh cg nd sl vb rb sb us hM hn
  unfold wpX_combine wpY_combine
  dsimp only
  have hc := hM.1
  by_cases h0 : v1 < 0
  · exact br_t h0 (br_t h0 ⟨rfl, zt_in hM hn⟩)
  · by_cases h2 : v1 ≤ 2
    · by_cases hF : c = 24
      · have e2 : nI c = 24 := by rw [hF]; rfl
        exact br_f h0 (br_t h2 (br_t e2 (br_f h0 (br_t h2 (br_f (nI_ge (a := 23) (by omega) (by omega)) ⟨rfl, zt_in hM hn⟩)))))
      · have ne : ¬ nI c = 24 := fun z => by
          have z2 : nI c = nI 24 := z
          rw [nI_eq (by omega) (by omega)] at z2
          omega
        have le : nI c ≤ 23 := nI_le (b := 23) (by omega) (by decide)
        rcases zt_node (t := t) (q := q) (m := m) (kx := kx) (ky := ky) (lf := lf) (rg := rg) (tn := tn) (tw := tw) (ps := ps) (mo := mo) (va := va) (sh := sh) (cg := cg) (nd := nd) (sl := sl) (vb := vb) (rb := rb) (sb := sb) (us := us) hc v2 with ⟨a, ha, ea, aX, aY⟩ | ⟨aX, aY⟩
        · rcases zt_node (t := t) (q := q) (m := m) (kx := kx) (ky := ky) (lf := lf) (rg := rg) (tn := tn) (tw := tw) (ps := ps) (mo := mo) (va := va) (sh := sh) (cg := cg) (nd := nd) (sl := sl) (vb := vb) (rb := rb) (sb := sb) (us := us) hc v3 with ⟨b, hb, eb, bX, bY⟩ | ⟨bX, bY⟩
          · have hv : v1 = 0 ∨ v1 = 1 ∨ v1 = 2 := by
              obtain ⟨j, hj, rfl⟩ := nI_of2 (M := 2) (n := 2) (by decide) h0 h2
              have : j = 0 ∨ j = 1 ∨ j = 2 := by omega
              rcases this with rfl | rfl | rfl
              · exact Or.inl rfl
              · exact Or.inr (Or.inl rfl)
              · exact Or.inr (Or.inr rfl)
            have ia : vp_in v2 c := by rw [ea]; exact vp_in_nI ha (by omega)
            have ib : vp_in v3 c := by rw [eb]; exact vp_in_nI hb (by omega)
            obtain ⟨r, u', v', hR, mX, mY⟩ := zt_make (k := k + 4) (q := q) (x := 2 + v1) (y := v1) (a := v2) (b := v3) (tw := tw) (ps := ps) (mo := mo) (va := va) (sh := sh) (cg := cg) (sl := sl) (vb := vb) (rb := rb) (sb := sb) (us := us) hM hn (Or.inr (Or.inr ⟨by rcases hv with rfl | rfl | rfl <;> decide, ia, ib⟩)) (by rcases hv with rfl | rfl | rfl <;> decide)
            refine br_f h0 (br_t h2 (br_f ne (aX _ (br_f (by decide) (bX _ (br_f (by decide) (mX _ ?_)))))))
            obtain ⟨a1, a2, a3, a4, a5, a6, a7, a8, a9, b1, b2, b3, b4, b5, b6, b7⟩ := u'
            refine br_f h0 (br_t h2 (br_t le (aY _ (br_t rfl (bY _ (br_t rfl (mY _ ?_)))))))
            obtain ⟨d1, d2, d3, d4, d5, d6, d7, d8, d9, e1, e2, e3, e4, e5⟩ := v'
            exact ⟨rfl, hR⟩
          · exact br_f h0 (br_t h2 (br_f ne (aX _ (br_f (by decide) (bX _ (br_t rfl (br_f h0 (br_t h2 (br_t le (aY _ (br_t rfl (bY _ (br_f (by decide) ⟨rfl, zt_in hM hn⟩)))))))))))))
        · exact br_f h0 (br_t h2 (br_f ne (aX _ (br_t rfl (br_f h0 (br_t h2 (br_t le (aY _ (br_f (by decide) ⟨rfl, zt_in hM hn⟩)))))))))
    · exact br_f h0 (br_f h2 (br_f h0 (br_f h2 ⟨rfl, zt_in hM hn⟩)))
theorem i_vc_square {k : Nat} {u : SX} {v : SY} (I : i_Rel k u v) (hk : k + 4 ≤ 2048) (v1 : Int32) : wpX_square (fun r u' => wpY_square (fun r' v' => r' = r ∧ i_Rel (k + 4) u' v') v v1) u v1 := by
  refine zt_el (F := fun u v => wpX_square (fun r u' => wpY_square (fun r' v' => r' = r ∧ i_Rel (k + 4) u' v') v v1) u v1) ?_ I
  intro c t q m kx ky lf rg tn tw ps mo va sh cg nd sl vb rb sb us hM hn
  unfold wpX_square wpY_square
  dsimp only
  have hc := hM.1
  by_cases hF : c = 24
  · have e2 : nI c = 24 := by rw [hF]; rfl
    exact br_t e2 (br_f (nI_ge (a := 23) (by omega) (by omega)) ⟨rfl, zt_in hM hn⟩)
  · have ne : ¬ nI c = 24 := fun z => by
      have z2 : nI c = nI 24 := z
      rw [nI_eq (by omega) (by omega)] at z2
      omega
    have le : nI c ≤ 23 := nI_le (b := 23) (by omega) (by decide)
    rcases zt_node (t := t) (q := q) (m := m) (kx := kx) (ky := ky) (lf := lf) (rg := rg) (tn := tn) (tw := tw) (ps := ps) (mo := mo) (va := va) (sh := sh) (cg := cg) (nd := nd) (sl := sl) (vb := vb) (rb := rb) (sb := sb) (us := us) hc v1 with ⟨a, ha, ea, aX, aY⟩ | ⟨aX, aY⟩
    · have ia : vp_in v1 c := by rw [ea]; exact vp_in_nI ha (by omega)
      obtain ⟨r, u', v', hR, mX, mY⟩ := zt_make (k := k + 4) (q := q) (x := 5) (y := 3) (a := v1) (b := v1) (tw := tw) (ps := ps) (mo := mo) (va := va) (sh := sh) (cg := cg) (sl := sl) (vb := vb) (rb := rb) (sb := sb) (us := us) hM hn (Or.inr (Or.inr ⟨by decide, ia, ia⟩)) (by decide)
      refine br_f ne (aX _ (br_f (by decide) (mX _ ?_)))
      obtain ⟨a1, a2, a3, a4, a5, a6, a7, a8, a9, b1, b2, b3, b4, b5, b6, b7⟩ := u'
      refine br_t le (aY _ (br_t rfl (mY _ ?_)))
      obtain ⟨d1, d2, d3, d4, d5, d6, d7, d8, d9, e1, e2, e3, e4, e5⟩ := v'
      exact ⟨rfl, hR⟩
    · exact br_f ne (aX _ (br_t rfl (br_t le (aY _ (br_f (by decide) ⟨rfl, zt_in hM hn⟩)))))
theorem i_vc_term {k : Nat} {u : SX} {v : SY} (I : i_Rel k u v) (hk : k + 4 ≤ 2048) (v1 : Int32) (v2 : Int32) : wpX_term (fun r u' => wpY_term (fun r' v' => r' = r ∧ i_Rel (k + 4) u' v') v v1 v2) u v1 v2 := by
  refine zt_el (F := fun u v => wpX_term (fun r u' => wpY_term (fun r' v' => r' = r ∧ i_Rel (k + 4) u' v') v v1 v2) u v1 v2) ?_ I
  intro c t q m kx ky lf rg tn tw ps mo va sh cg nd sl vb rb sb us hM hn
  unfold wpX_term wpY_term
  dsimp only
  have hc := hM.1
  have ht := hM.2.1
  rcases zt_node (t := t) (q := q) (m := m) (kx := kx) (ky := ky) (lf := lf) (rg := rg) (tn := tn) (tw := tw) (ps := ps) (mo := mo) (va := va) (sh := sh) (cg := cg) (nd := nd) (sl := sl) (vb := vb) (rb := rb) (sb := sb) (us := us) hc v1 with ⟨a, ha, ea, aX, aY⟩ | ⟨aX, aY⟩
  · have ia : vp_in v1 c := by rw [ea]; exact vp_in_nI ha (by omega)
    by_cases h0 : v2 < -20
    · exact aX _ (br_f (by decide) (br_t h0 (aY _ (br_t rfl (br_t h0 ⟨rfl, zt_in hM hn⟩)))))
    · by_cases h2 : v2 ≤ 20
      · by_cases h8 : t = 8
        · have e2 : nI t = 8 := by rw [h8]; rfl
          exact aX _ (br_f (by decide) (br_f h0 (br_t h2 (br_t e2 (aY _ (br_t rfl (br_f h0 (br_t h2 (br_f (nI_ge (a := 7) (by omega) (by omega)) ⟨rfl, zt_in hM hn⟩)))))))))
        · have ne : ¬ nI t = 8 := fun z => by
            have z2 : nI t = nI 8 := z
            rw [nI_eq (by omega) (by omega)] at z2
            omega
          have le : nI t ≤ 7 := nI_le (b := 7) (by omega) (by decide)
          have i8 : vp_in (nI t) 8 := vp_in_nI (by omega) (by decide)
          have cl : (nI t).toNatClampNeg = t := nI_clamp (by omega)
          have hM2 : zt_M c (t + 1) kx ky lf rg (upd tn t v1) := by
            obtain ⟨_, _, ok, kk, tk⟩ := hM
            refine ⟨hc, by omega, ok, kk, fun j hj => ?_⟩
            by_cases e : j = t
            · rw [e, pk_us]; exact ia
            · rw [pk_un e]; exact tk j (by omega)
          refine aX _ (br_f (by decide) (br_f h0 (br_t h2 (br_f ne ⟨i8, nm_r (congrArg (fun z => upd tn z v1) cl) ⟨i8, nm_r (congrArg (fun z => upd tw z v2) cl) (nm_r (nI_1 t) ?_)⟩⟩))))
          exact aY _ (br_t rfl (br_f h0 (br_t h2 (br_t le ⟨i8, nm_r (congrArg (fun z => upd tn z v1) cl) ⟨i8, nm_r (congrArg (fun z => upd tw z v2) cl) (nm_r (nI_1 t) ⟨rfl, zt_in hM2 (Or.inl rfl)⟩)⟩⟩))))
      · exact aX _ (br_f (by decide) (br_f h0 (br_f h2 (aY _ (br_t rfl (br_f h0 (br_f h2 ⟨rfl, zt_in hM hn⟩)))))))
  · exact aX _ (br_t rfl (aY _ (br_f (by decide) ⟨rfl, zt_in hM hn⟩)))
theorem i_vc_clear {k : Nat} {u : SX} {v : SY} (I : i_Rel k u v) (hk : k + 4 ≤ 2048) : wpX_clear (fun r u' => wpY_clear (fun r' v' => r' = r ∧ i_Rel (k + 4) u' v') v) u := by
  refine zt_el (F := fun u v => wpX_clear (fun r u' => wpY_clear (fun r' v' => r' = r ∧ i_Rel (k + 4) u' v') v) u) ?_ I
  intro c t q m kx ky lf rg tn tw ps mo va sh cg nd sl vb rb sb us hM hn
  unfold wpX_clear wpY_clear
  dsimp only
  exact ⟨rfl, zt_in (c := 0) (t := 0) zt_M0 (Or.inl rfl)⟩
theorem i_vc_nodes {k : Nat} {u : SX} {v : SY} (I : i_Rel k u v) (hk : k + 4 ≤ 2048) : wpX_nodes (fun r => wpY_nodes (fun r' => r' = r ∧ i_Rel (k + 4) u v) v) u := by
  refine zt_el (F := fun u v => wpX_nodes (fun r => wpY_nodes (fun r' => r' = r ∧ i_Rel (k + 4) u v) v) u) ?_ I
  intro c t q m kx ky lf rg tn tw ps mo va sh cg nd sl vb rb sb us hM hn
  unfold wpX_nodes wpY_nodes
  dsimp only
  exact ⟨rfl, zt_in hM hn⟩
theorem i_vc_terms {k : Nat} {u : SX} {v : SY} (I : i_Rel k u v) (hk : k + 4 ≤ 2048) : wpX_terms (fun r => wpY_terms (fun r' => r' = r ∧ i_Rel (k + 4) u v) v) u := by
  refine zt_el (F := fun u v => wpX_terms (fun r => wpY_terms (fun r' => r' = r ∧ i_Rel (k + 4) u v) v) u) ?_ I
  intro c t q m kx ky lf rg tn tw ps mo va sh cg nd sl vb rb sb us hM hn
  unfold wpX_terms wpY_terms
  dsimp only
  exact ⟨rfl, zt_in hM hn⟩
/-- 4 h + i is an index of a chain's cell -/
theorem zt_cell {h i : Nat} (hh : h < 3) (hi : i < 4) : vp_in (4 * nI h + nI i) 12 ∧ (4 * nI h + nI i).toNatClampNeg = 4 * h + i := by
  rw [zt_4]
  exact zt_adN hi (by omega)
theorem i_vc_place {k : Nat} {u : SX} {v : SY} (I : i_Rel k u v) (hk : k + 4 ≤ 2048) (v1 : Int32) (v2 : Int32) (v3 : Int32) : wpX_place (fun r u' => wpY_place (fun r' v' => r' = r ∧ i_Rel (k + 4) u' v') v v1 v2 v3) u v1 v2 v3 := by
  refine zt_el (F := fun u v => wpX_place (fun r u' => wpY_place (fun r' v' => r' = r ∧ i_Rel (k + 4) u' v') v v1 v2 v3) u v1 v2 v3) ?_ I
  intro c t q m kx ky lf rg tn tw ps mo va sh cg nd sl vb rb sb us hM hn
  unfold wpX_place wpY_place
  dsimp only
  rcases zt_chain v1 with ⟨h, hh, rfl, hX, hY⟩ | ⟨hX, hY⟩
  · rcases zt_param v2 with ⟨i, hi, rfl, pX, pY⟩ | ⟨pX, pY⟩
    · have ic := (zt_cell hh hi).1
      exact hX _ (br_f (by decide) (pX _ (br_f (by decide) ⟨ic, nm_e (hY _ _ (br_t rfl (pY _ _ (br_t rfl ⟨ic, nm_e ⟨rfl, zt_in hM hn⟩⟩))))⟩)))
    · exact hX _ (br_f (by decide) (pX _ (br_t rfl (hY _ _ (br_t rfl (pY _ _ (br_f (by decide) ⟨rfl, zt_in hM hn⟩)))))))
  · exact hX _ (br_t rfl (hY _ _ (br_f (by decide) ⟨rfl, zt_in hM hn⟩)))
theorem i_vc_push {k : Nat} {u : SX} {v : SY} (I : i_Rel k u v) (hk : k + 4 ≤ 2048) (v1 : Int32) (v2 : Int32) (v3 : Int32) : wpX_push (fun r u' => wpY_push (fun r' v' => r' = r ∧ i_Rel (k + 4) u' v') v v1 v2 v3) u v1 v2 v3 := by
  refine zt_el (F := fun u v => wpX_push (fun r u' => wpY_push (fun r' v' => r' = r ∧ i_Rel (k + 4) u' v') v v1 v2 v3) u v1 v2 v3) ?_ I
  intro c t q m kx ky lf rg tn tw ps mo va sh cg nd sl vb rb sb us hM hn
  unfold wpX_push wpY_push
  dsimp only
  rcases zt_chain v1 with ⟨h, hh, rfl, hX, hY⟩ | ⟨hX, hY⟩
  · rcases zt_param v2 with ⟨i, hi, rfl, pX, pY⟩ | ⟨pX, pY⟩
    · have ic := (zt_cell hh hi).1
      exact hX _ (br_f (by decide) (pX _ (br_f (by decide) ⟨ic, nm_e (hY _ _ (br_t rfl (pY _ _ (br_t rfl ⟨ic, nm_e ⟨rfl, zt_in hM hn⟩⟩))))⟩)))
    · exact hX _ (br_f (by decide) (pX _ (br_t rfl (hY _ _ (br_t rfl (pY _ _ (br_f (by decide) ⟨rfl, zt_in hM hn⟩)))))))
  · exact hX _ (br_t rfl (hY _ _ (br_f (by decide) ⟨rfl, zt_in hM hn⟩)))
theorem i_vc_shift {k : Nat} {u : SX} {v : SY} (I : i_Rel k u v) (hk : k + 4 ≤ 2048) (v1 : Int32) : wpX_shift (fun r u' => wpY_shift (fun r' v' => r' = r ∧ i_Rel (k + 4) u' v') v v1) u v1 := by
  refine zt_el (F := fun u v => wpX_shift (fun r u' => wpY_shift (fun r' v' => r' = r ∧ i_Rel (k + 4) u' v') v v1) u v1) ?_ I
  intro c t q m kx ky lf rg tn tw ps mo va sh cg nd sl vb rb sb us hM hn
  unfold wpX_shift wpY_shift
  dsimp only
  by_cases h0 : v1 < 0
  · exact br_t h0 (br_t h0 ⟨rfl, zt_in hM hn⟩)
  · by_cases h2 : v1 ≤ 20
    · exact br_f h0 (br_t h2 (br_f h0 (br_t h2 ⟨rfl, zt_in hM hn⟩)))
    · exact br_f h0 (br_f h2 (br_f h0 (br_f h2 ⟨rfl, zt_in hM hn⟩)))
theorem i_vc_position {k : Nat} {u : SX} {v : SY} (I : i_Rel k u v) (hk : k + 4 ≤ 2048) (v1 : Int32) (v2 : Int32) : wpX_position (fun r => wpY_position (fun r' => r' = r ∧ i_Rel (k + 4) u v) v v1 v2) u v1 v2 := by
  refine zt_el (F := fun u v => wpX_position (fun r => wpY_position (fun r' => r' = r ∧ i_Rel (k + 4) u v) v v1 v2) u v1 v2) ?_ I
  intro c t q m kx ky lf rg tn tw ps mo va sh cg nd sl vb rb sb us hM hn
  unfold wpX_position wpY_position
  dsimp only
  rcases zt_chain v1 with ⟨h, hh, rfl, hX, hY⟩ | ⟨hX, hY⟩
  · rcases zt_param v2 with ⟨i, hi, rfl, pX, pY⟩ | ⟨pX, pY⟩
    · have ic := (zt_cell hh hi).1
      exact hX _ (br_f (by decide) (pX _ (br_f (by decide) ⟨ic, hY _ _ (br_t rfl (pY _ _ (br_t rfl ⟨ic, ⟨rfl, zt_in hM hn⟩⟩)))⟩)))
    · exact hX _ (br_f (by decide) (pX _ (br_t rfl (hY _ _ (br_t rfl (pY _ _ (br_f (by decide) ⟨rfl, zt_in hM hn⟩)))))))
  · exact hX _ (br_t rfl (hY _ _ (br_f (by decide) ⟨rfl, zt_in hM hn⟩)))
theorem i_vc_momentum {k : Nat} {u : SX} {v : SY} (I : i_Rel k u v) (hk : k + 4 ≤ 2048) (v1 : Int32) (v2 : Int32) : wpX_momentum (fun r => wpY_momentum (fun r' => r' = r ∧ i_Rel (k + 4) u v) v v1 v2) u v1 v2 := by
  refine zt_el (F := fun u v => wpX_momentum (fun r => wpY_momentum (fun r' => r' = r ∧ i_Rel (k + 4) u v) v v1 v2) u v1 v2) ?_ I
  intro c t q m kx ky lf rg tn tw ps mo va sh cg nd sl vb rb sb us hM hn
  unfold wpX_momentum wpY_momentum
  dsimp only
  rcases zt_chain v1 with ⟨h, hh, rfl, hX, hY⟩ | ⟨hX, hY⟩
  · rcases zt_param v2 with ⟨i, hi, rfl, pX, pY⟩ | ⟨pX, pY⟩
    · have ic := (zt_cell hh hi).1
      exact hX _ (br_f (by decide) (pX _ (br_f (by decide) ⟨ic, hY _ _ (br_t rfl (pY _ _ (br_t rfl ⟨ic, ⟨rfl, zt_in hM hn⟩⟩)))⟩)))
    · exact hX _ (br_f (by decide) (pX _ (br_t rfl (hY _ _ (br_t rfl (pY _ _ (br_f (by decide) ⟨rfl, zt_in hM hn⟩)))))))
  · exact hX _ (br_t rfl (hY _ _ (br_f (by decide) ⟨rfl, zt_in hM hn⟩)))
end
section
/-! the component's mark, evaluate, live -/
section
variable {c t : Nat} {q m : Int32} {kx ky lf rg tn tw ps mo va sh cg nd sl vb rb sb us : Nat → Int32}
theorem zt_x69 {post : SX → Prop} (ok : zt_ok c kx lf rg) (hc : c ≤ 24) (hp : ∀ nd', zt_ND 0 c t kx lf rg tn nd' → post (nI c, nI t, q, m, kx, lf, rg, tn, tw, ps, mo, va, sh, cg, nd', sl)) : ∀ (n s : Nat) (nd : Nat → Int32), s < n → s ≤ c → zt_ND s c t kx lf rg tn nd → wX_mark_69 post (nI c) (nI t) q m n (nI s + (-1)) kx lf rg tn tw ps mo va sh cg nd sl := by
  intro n
  induction n with
  | zero => intro s nd h; omega
  | succ n ih =>
    intro s nd h1 h2 h3
    cases s with
    | zero => exact br_t (by decide) (hp nd h3)
    | succ s =>
      rw [pk_m1 s]
      have hs : s < 2 ^ 31 := by omega
      have i24 : vp_in (nI s) 24 := vp_in_nI (by omega) (by decide)
      have cl := nI_clamp hs
      refine br_f (nI_pos hs) ⟨i24, ?_⟩
      rw [cl]
      by_cases hn : nd s = 0
      · exact br_t hn (nm_e (ih s nd (by omega) (by omega) (zt_ND_skip h3 (Or.inl hn))))
      · refine br_f hn ⟨i24, ?_⟩
        by_cases hk : kx s < 2
        · exact br_t hk (br_t rfl (nm_e (ih s nd (by omega) (by omega) (zt_ND_skip h3 (Or.inr hk)))))
        · obtain ⟨hl, hr⟩ := zt_ok_p ok (by omega) hk
          exact br_f hk (br_f (by decide) ⟨i24, zt_mono hl (by omega), nm_e ⟨i24, zt_mono hr (by omega), nm_e (nm_e (ih s _ (by omega) (by omega) (zt_ND_mark h3 (by omega) hn hk hl hr)))⟩⟩)
theorem zt_x36 {post : SX → Prop} (ok : zt_ok c kx lf rg) (hc : c ≤ 24) (ht : t ≤ 8) (tk : ∀ j, j < t → vp_in (tn j) c) (hp : ∀ nd', zt_ND 0 c t kx lf rg tn nd' → post (nI c, nI t, q, m, kx, lf, rg, tn, tw, ps, mo, va, sh, cg, nd', sl)) : ∀ (n i : Nat) (nd : Nat → Int32), t < n + i → i ≤ t → zt_TM tn i nd → wX_mark_36 post (nI c) (nI t) q m n (nI i) kx lf rg tn tw ps mo va sh cg nd sl := by
  intro n
  induction n with
  | zero => intro i nd h h'; omega
  | succ n ih =>
    intro i nd h1 h2 h3
    by_cases h : t ≤ i
    · have e : i = t := by omega
      rw [e] at h3 ⊢
      exact br_t (nI_le (Nat.le_refl _) (by omega)) (nm_r (zt_m1 c) ⟨c + 1, zt_x69 ok hc hp (c + 1) c nd (by omega) (Nat.le_refl _) (zt_TM_ND hc h3)⟩)
    · have i8 : vp_in (nI i) 8 := vp_in_nI (by omega) (by decide)
      refine br_f (nI_ge (by omega) (by omega)) ⟨i8, ?_⟩
      rw [nI_clamp (n := i) (by omega)]
      exact ⟨zt_mono (tk i (by omega)) hc, nm_e (nm_r (nI_1 i) (ih (i + 1) _ (by omega) (by omega) (zt_TM_s h3)))⟩
theorem zt_x15 {post : SX → Prop} (ok : zt_ok c kx lf rg) (hc : c ≤ 24) (ht : t ≤ 8) (tk : ∀ j, j < t → vp_in (tn j) c) (hp : ∀ nd', zt_ND 0 c t kx lf rg tn nd' → post (nI c, nI t, q, m, kx, lf, rg, tn, tw, ps, mo, va, sh, cg, nd', sl)) : ∀ (n i : Nat) (nd : Nat → Int32), 24 < n + i → i ≤ 24 → (∀ j, j < i → nd j = 0) → wX_mark_15 post (nI c) (nI t) q m n (nI i) kx lf rg tn tw ps mo va sh cg nd sl := by
  intro n
  induction n with
  | zero => intro i nd h h'; omega
  | succ n ih =>
    intro i nd h1 h2 h3
    by_cases h : 24 ≤ i
    · have e : i = 24 := by omega
      rw [e] at h3 ⊢
      exact br_t (nI_le (a := 24) (b := 24) (Nat.le_refl _) (by decide)) ⟨t + 1, zt_x36 ok hc ht tk hp (t + 1) 0 nd (by omega) (Nat.zero_le _) (zt_TM_0 h3)⟩
    · have i24 : vp_in (nI i) 24 := vp_in_nI (by omega) (by decide)
      refine br_f (nI_ge (b := 24) (by omega) (by decide)) ⟨i24, ?_⟩
      rw [nI_clamp (n := i) (by omega)]
      refine nm_e (nm_r (nI_1 i) (ih (i + 1) _ (by omega) (by omega) ?_))
      intro j hj
      by_cases e : j = i
      · rw [e, pk_us]; rfl
      · rw [pk_un e]; exact h3 j (by omega)
theorem zt_xmark {post : SX → Prop} (hM : zt_M c t kx ky lf rg tn) (hn : m = 0 ∨ zt_ND 0 c t kx lf rg tn nd) (hp : ∀ m' nd', zt_ND 0 c t kx lf rg tn nd' → post (nI c, nI t, q, m', kx, lf, rg, tn, tw, ps, mo, va, sh, cg, nd', sl)) : wpX_mark post (nI c, nI t, q, m, kx, lf, rg, tn, tw, ps, mo, va, sh, cg, nd, sl) := by
  obtain ⟨hc, ht, ok, kk, tk⟩ := hM
  by_cases h : m = 0
  · exact br_t h ⟨25, zt_x15 ok hc ht tk (hp 1) 25 0 nd (by omega) (by omega) (fun j hj => by omega)⟩
  · exact br_f h (hp m nd (hn.resolve_left h))

/-- the value of one node -/
theorem zt_xcomp {post : Int32 → Prop} {k b : Nat} {p : Int32} (ok : zt_ok c kx lf rg) (hc : c ≤ 24) (hk : k < c) (ep : p = nI b) (hb : b + 4 ≤ 12) (hp : post (zt_F kx lf rg (fun i => ps (b + i)) k va)) : wpX_computed post (nI c, nI t, q, m, kx, lf, rg, tn, tw, ps, mo, va, sh, cg, nd, sl) (nI k) p := by
  have i24 : vp_in (nI k) 24 := vp_in_nI (by omega) (by decide)
  have cl : (nI k).toNatClampNeg = k := nI_clamp (by omega)
  rw [ep]
  unfold wpX_computed
  dsimp only
  rw [cl]
  refine ⟨i24, nm_e ?_⟩
  rcases ok k hk with ⟨e, hl⟩ | e | ⟨e, hl, hr⟩
  · obtain ⟨a, d⟩ := zt_ad hl hb
    rw [zt_F0 e] at hp
    refine br_t e ⟨i24, a, ?_⟩
    rw [d]
    exact hp
  · rw [zt_F1 e] at hp
    exact br_f (by rw [e]; decide) (br_t e ⟨i24, hp⟩)
  · have l24 : vp_in (lf k) 24 := zt_mono hl (by omega)
    have r24 : vp_in (rg k) 24 := zt_mono hr (by omega)
    rcases e with e | e | e
    · rw [zt_F2 e] at hp
      exact br_f (by rw [e]; decide) (br_f (by rw [e]; decide) ⟨i24, l24, nm_e ⟨i24, r24, nm_e (br_t e hp)⟩⟩)
    · rw [zt_F3 e] at hp
      exact br_f (by rw [e]; decide) (br_f (by rw [e]; decide) ⟨i24, l24, nm_e ⟨i24, r24, nm_e (br_f (by rw [e]; decide) (br_t e hp))⟩⟩)
    · rw [zt_F4 e] at hp
      rcases e with e | e
      · exact br_f (by rw [e]; decide) (br_f (by rw [e]; decide) ⟨i24, l24, nm_e ⟨i24, r24, nm_e (br_f (by rw [e]; decide) (br_f (by rw [e]; decide) hp))⟩⟩)
      · exact br_f (by rw [e]; decide) (br_f (by rw [e]; decide) ⟨i24, l24, nm_e ⟨i24, r24, nm_e (br_f (by rw [e]; decide) (br_f (by rw [e]; decide) hp))⟩⟩)
theorem zt_x45 {post : Int32 → SX → Prop} (hc : c ≤ 24) (ht : t ≤ 8) (tk : ∀ j, j < t → vp_in (tn j) c) (hp : post (zt_S t tn tw va) (nI c, nI t, q, m, kx, lf, rg, tn, tw, ps, mo, va, sh, cg, nd, sl)) : ∀ (n i : Nat) (x : Int32), t < n + i → i ≤ t → x = zt_S i tn tw va → wX_evaluate_45 post (nI c) (nI t) q m kx lf rg tn tw ps mo va sh cg nd sl n x (nI i) := by
  intro n
  induction n with
  | zero => intro i x h h'; omega
  | succ n ih =>
    intro i x h1 h2 h3
    by_cases h : t ≤ i
    · have e : i = t := by omega
      rw [h3, e]
      exact br_t (nI_le (Nat.le_refl _) (by omega)) hp
    · have i8 : vp_in (nI i) 8 := vp_in_nI (by omega) (by decide)
      refine br_f (nI_ge (by omega) (by omega)) ⟨i8, i8, ?_⟩
      rw [nI_clamp (n := i) (by omega)]
      exact ⟨zt_mono (tk i (by omega)) hc, nm_e (nm_r (nI_1 i) (ih (i + 1) _ (by omega) (by omega) (by rw [h3]; rfl)))⟩
theorem zt_x6 {post : Int32 → SX → Prop} {b : Nat} (hM : zt_M c t kx ky lf rg tn) (hb : b + 4 ≤ 12) (hnd : zt_ND 0 c t kx lf rg tn nd) (hp : ∀ va', (∀ k, k < c → nd k ≠ 0 → va' k = zt_V c kx lf rg (fun i => ps (b + i)) k) → post (zt_Z c t kx lf rg tn tw (fun i => ps (b + i))) (nI c, nI t, q, m, kx, lf, rg, tn, tw, ps, mo, va', sh, cg, nd, sl)) : ∀ (n k : Nat) (va : Nat → Int32), c < n + k → k ≤ c → (∀ j, j < k → nd j ≠ 0 → va j = zt_V c kx lf rg (fun i => ps (b + i)) j) → wX_evaluate_6 post (nI b) (nI c) (nI t) q m n (nI k) kx lf rg tn tw ps mo va sh cg nd sl := by
  obtain ⟨hc, ht, ok, kk, tk⟩ := hM
  intro n
  induction n with
  | zero => intro k va h h'; omega
  | succ n ih =>
    intro k va h1 h2 h3
    by_cases h : c ≤ k
    · have e : k = c := by omega
      rw [e] at h3 ⊢
      refine br_t (nI_le (Nat.le_refl _) (by omega)) ⟨t + 1, zt_x45 hc ht tk ?_ (t + 1) 0 0 (by omega) (Nat.zero_le _) rfl⟩
      have e2 := zt_S_nd (tw := tw) hnd tk h3
      rw [e2]
      exact hp va h3
    · have hk : k < c := by omega
      have i24 : vp_in (nI k) 24 := vp_in_nI (by omega) (by decide)
      have cl : (nI k).toNatClampNeg = k := nI_clamp (by omega)
      refine br_f (nI_ge (by omega) (by omega)) ⟨i24, ?_⟩
      rw [cl]
      by_cases hn : nd k = 0
      · refine br_t hn (nm_r (nI_1 k) (ih (k + 1) va (by omega) (by omega) ?_))
        intro j hj hz
        by_cases e : j = k
        · rw [e] at hz; exact absurd hn hz
        · exact h3 j (by omega) hz
      · refine br_f hn (zt_xcomp ok hc hk rfl hb ⟨i24, nm_e (nm_r (nI_1 k) (ih (k + 1) _ (by omega) (by omega) ?_))⟩)
        intro j hj hz
        by_cases e : j = k
        · rw [e, pk_us, zt_V_eq ok hk]
          refine zt_F_parts ok hk (fun hq => ?_)
          obtain ⟨a, d⟩ := zt_ok_p ok hk hq
          obtain ⟨na, nb⟩ := zt_ND_cl ok hnd hk hn hq
          exact ⟨h3 _ (zt_lt a) na, h3 _ (zt_lt d) nb⟩
        · rw [pk_un e]
          exact h3 j (by omega) hz
theorem zt_xeval {post : Int32 → SX → Prop} {b : Nat} {p : Int32} (ep : p = nI b) (hM : zt_M c t kx ky lf rg tn) (hb : b + 4 ≤ 12) (hn : m = 0 ∨ zt_ND 0 c t kx lf rg tn nd) (hp : ∀ m' va' nd', zt_ND 0 c t kx lf rg tn nd' → (∀ k, k < c → nd' k ≠ 0 → va' k = zt_V c kx lf rg (fun i => ps (b + i)) k) → post (zt_Z c t kx lf rg tn tw (fun i => ps (b + i))) (nI c, nI t, q, m', kx, lf, rg, tn, tw, ps, mo, va', sh, cg, nd', sl)) : wpX_evaluate post (nI c, nI t, q, m, kx, lf, rg, tn, tw, ps, mo, va, sh, cg, nd, sl) p := by
  rw [ep]
  unfold wpX_evaluate
  refine zt_xmark hM hn (fun m' nd' hnd => ?_)
  exact ⟨c + 1, zt_x6 hM hb hnd (fun va' hv => hp m' va' nd' hnd hv) (c + 1) 0 va (by omega) (Nat.zero_le _) (fun j hj => by omega)⟩
theorem zt_xlive8 {post : Int32 → SX → Prop} (hc : c ≤ 24) (hp : post (zt_sum (zt_ind nd) c) (nI c, nI t, q, m, kx, lf, rg, tn, tw, ps, mo, va, sh, cg, nd, sl)) : ∀ (n k : Nat) (x : Int32), c < n + k → k ≤ c → x = zt_sum (zt_ind nd) k → wX_live_8 post (nI c) (nI t) q m kx lf rg tn tw ps mo va sh cg nd sl n x (nI k) := by
  intro n
  induction n with
  | zero => intro k x h h'; omega
  | succ n ih =>
    intro k x h1 h2 h3
    by_cases h : c ≤ k
    · have e : k = c := by omega
      rw [h3, e]
      exact br_t (nI_le (Nat.le_refl _) (by omega)) hp
    · have i24 : vp_in (nI k) 24 := vp_in_nI (by omega) (by decide)
      have cl : (nI k).toNatClampNeg = k := nI_clamp (by omega)
      refine br_f (nI_ge (by omega) (by omega)) ⟨i24, ?_⟩
      rw [cl]
      have es : zt_sum (zt_ind nd) (k + 1) = zt_sum (zt_ind nd) k + zt_ind nd k := rfl
      by_cases hn : nd k = 0
      · exact br_t hn (nm_e (nm_r (nI_1 k) (ih (k + 1) _ (by omega) (by omega) (by rw [es, zt_ind0 hn, h3]))))
      · exact br_f hn (nm_e (nm_r (nI_1 k) (ih (k + 1) _ (by omega) (by omega) (by rw [es, zt_ind1 hn, h3]))))
/-- the component's valueOf: all nodes up to the one that is asked -/
theorem zt_xv19 {post : Int32 → SX → Prop} {h w : Nat} (ok : zt_ok c kx lf rg) (hc : c ≤ 24) (hh : h < 3) (hw : w < c) (hp : ∀ va', post (zt_V c kx lf rg (fun i => ps (4 * h + i)) w) (nI c, nI t, q, m, kx, lf, rg, tn, tw, ps, mo, va', sh, cg, nd, sl)) : ∀ (n k : Nat) (va : Nat → Int32), w + 1 < n + k → k ≤ w + 1 → (∀ j, j < k → va j = zt_V c kx lf rg (fun i => ps (4 * h + i)) j) → wX_valueOf_19 post (nI h) (nI w) (nI c) (nI t) q m n (nI k) kx lf rg tn tw ps mo va sh cg nd sl := by
  intro n
  induction n with
  | zero => intro k va h h'; omega
  | succ n ih =>
    intro k va h1 h2 h3
    by_cases hk : k = w + 1
    · have w24 : vp_in (nI w) 24 := vp_in_nI (by omega) (by decide)
      refine br_t (nI_lt (by omega) (by omega)) ⟨w24, ?_⟩
      rw [nI_clamp (n := w) (by omega), h3 w (by omega)]
      exact hp va
    · have i24 : vp_in (nI k) 24 := vp_in_nI (by omega) (by decide)
      have cl : (nI k).toNatClampNeg = k := nI_clamp (by omega)
      refine br_f (nI_nlt (by omega) (by omega)) (zt_xcomp ok hc (by omega) (zt_4 h) (by omega) ⟨i24, ?_⟩)
      rw [cl]
      refine nm_e (nm_r (nI_1 k) (ih (k + 1) _ (by omega) (by omega) ?_))
      intro j hj
      by_cases e : j = k
      · have hkc : k < c := by omega
        rw [e, pk_us, zt_V_eq ok hkc]
        refine zt_F_parts ok hkc (fun hq => ?_)
        obtain ⟨a, d⟩ := zt_ok_p ok hkc hq
        exact ⟨h3 _ (zt_lt a), h3 _ (zt_lt d)⟩
      · rw [pk_un e]
        exact h3 j (by omega)
end
end
section
/-! the component's sweep backward -/
section
variable {c t : Nat} {q m : Int32} {kx ky lf rg tn tw ps mo va sh cg nd sl vb rb sb us P : Nat → Int32}
theorem zt_hand {post : SX → Prop} {s : Nat} {T : Nat → Int32} (hM : zt_M c t kx ky lf rg tn) (hnd : zt_ND 0 c t kx lf rg tn nd) (hs : s < c) (hn : nd s ≠ 0) (hv : ∀ k, k < c → nd k ≠ 0 → va k = zt_V c kx lf rg P k) (hI : zt_inv (s + 1) c nd (fun i => zt_D c kx lf rg P (zt_e i)) T sh sl) (hp : ∀ sh' sl', zt_inv s c nd (fun i => zt_D c kx lf rg P (zt_e i)) T sh' sl' → post (nI c, nI t, q, m, kx, lf, rg, tn, tw, ps, mo, va, sh', cg, nd, sl')) : wpX_handOn post (nI c, nI t, q, m, kx, lf, rg, tn, tw, ps, mo, va, sh, cg, nd, sl) (nI s) := by
  obtain ⟨hc, ht, ok, kk, tk⟩ := hM
  have i24 : vp_in (nI s) 24 := vp_in_nI (by omega) (by decide)
  have cl : (nI s).toNatClampNeg = s := nI_clamp (by omega)
  unfold wpX_handOn
  dsimp only
  rw [cl]
  refine ⟨i24, nm_e ⟨i24, nm_e ⟨i24, nm_e ⟨i24, nm_e ?_⟩⟩⟩⟩
  have hD : ∀ i, zt_D c kx lf rg P (zt_e i) s = zt_G kx lf rg (zt_V c kx lf rg P) (zt_e i) s (zt_D c kx lf rg P (zt_e i)) := fun i => zt_D_eq ok hs
  rcases ok s hs with ⟨e, hl⟩ | e | ⟨e, hl, hr⟩
  · exact br_t e ⟨hl, hl, nm_e (hp _ _ (zt_inv_par hI (fun i hi => by show zt_D c kx lf rg P (zt_e i) s = _; rw [hD, zt_G0 e])))⟩
  · exact br_f (by rw [e]; decide) (br_f (by rw [e]; decide) (br_f (by rw [e]; decide) (br_f (by rw [e]; decide) (br_f (by rw [e]; decide) (hp _ _ (zt_inv_skip hI hs (Or.inr (fun i hi => by show zt_D c kx lf rg P (zt_e i) s = _; rw [hD, zt_G1 e]))))))))
  · have l24 : vp_in (lf s) 24 := zt_mono hl (by omega)
    have r24 : vp_in (rg s) 24 := zt_mono hr (by omega)
    have hq : ¬ kx s < 2 := by
      rcases e with e | e | e | e <;> rw [e] <;> decide
    obtain ⟨na, nb⟩ := zt_ND_cl ok hnd hs hn hq
    have ha := zt_lt hl
    have hb := zt_lt hr
    have ea := hv _ (Nat.lt_trans ha hs) na
    have eb := hv _ (Nat.lt_trans hb hs) nb
    rcases e with e | e | e
    · refine br_f (by rw [e]; decide) (br_t e ⟨l24, l24, nm_e ⟨r24, r24, nm_e (hp _ _ (zt_inv_two hI hs ha hb na nb (fun i hi => ?_)))⟩⟩)
      show sh s * zt_D c kx lf rg P (zt_e i) s = sh s * zt_D c kx lf rg P (zt_e i) (lf s).toNatClampNeg + sh s * zt_D c kx lf rg P (zt_e i) (rg s).toNatClampNeg
      rw [hD, zt_G2 e]
      grind
    · refine br_f (by rw [e]; decide) (br_f (by rw [e]; decide) (br_t e ⟨l24, l24, nm_e ⟨r24, r24, nm_r (congrArg (fun z => upd _ _ z) (Int32.sub_eq_add_neg _ _)) (hp _ _ (zt_inv_two hI hs ha hb na nb (fun i hi => ?_)))⟩⟩))
      show sh s * zt_D c kx lf rg P (zt_e i) s = sh s * zt_D c kx lf rg P (zt_e i) (lf s).toNatClampNeg + (-sh s) * zt_D c kx lf rg P (zt_e i) (rg s).toNatClampNeg
      rw [hD, zt_G3 e]
      grind
    · have J : wX_handOn_118 post (sh s) (lf s) (rg s) (nI c) (nI t) q m kx lf rg tn tw ps mo va sh cg nd sl := by
        refine ⟨l24, r24, l24, nm_e ⟨r24, l24, r24, nm_e (hp _ _ (zt_inv_two hI hs ha hb na nb (fun i hi => ?_)))⟩⟩
        show sh s * zt_D c kx lf rg P (zt_e i) s = (sh s * va (rg s).toNatClampNeg) * zt_D c kx lf rg P (zt_e i) (lf s).toNatClampNeg + (sh s * va (lf s).toNatClampNeg) * zt_D c kx lf rg P (zt_e i) (rg s).toNatClampNeg
        rw [hD, zt_G4 e, ea, eb]
        grind
      rcases e with e | e
      · exact br_f (by rw [e]; decide) (br_f (by rw [e]; decide) (br_f (by rw [e]; decide) (br_t e J)))
      · exact br_f (by rw [e]; decide) (br_f (by rw [e]; decide) (br_f (by rw [e]; decide) (br_f (by rw [e]; decide) (br_t e J))))
theorem zt_x92 {post : SX → Prop} {T : Nat → Int32} (hM : zt_M c t kx ky lf rg tn) (hnd : zt_ND 0 c t kx lf rg tn nd) (hv : ∀ k, k < c → nd k ≠ 0 → va k = zt_V c kx lf rg P k) (hp : ∀ sh' sl', zt_inv 0 c nd (fun i => zt_D c kx lf rg P (zt_e i)) T sh' sl' → post (nI c, nI t, q, m, kx, lf, rg, tn, tw, ps, mo, va, sh', cg, nd, sl')) : ∀ (n s : Nat) (sh sl : Nat → Int32), s < n → s ≤ c → zt_inv s c nd (fun i => zt_D c kx lf rg P (zt_e i)) T sh sl → wX_sweep_92 post n (nI s + (-1)) (nI c) (nI t) q m kx lf rg tn tw ps mo va sh cg nd sl := by
  intro n
  induction n with
  | zero => intro s sh sl h; omega
  | succ n ih =>
    intro s sh sl h1 h2 h3
    cases s with
    | zero => exact br_t (by decide) (hp sh sl h3)
    | succ s =>
      have hc := hM.1
      rw [pk_m1 s]
      have hs : s < 2 ^ 31 := by omega
      have i24 : vp_in (nI s) 24 := vp_in_nI (by omega) (by decide)
      have cl := nI_clamp hs
      refine br_f (nI_pos hs) ⟨i24, ?_⟩
      rw [cl]
      by_cases hn : nd s = 0
      · exact br_t hn (nm_e (ih s sh sl (by omega) (by omega) (zt_inv_skip h3 (by omega) (Or.inl hn))))
      · exact br_f hn (zt_hand hM hnd (by omega) hn hv h3 (fun sh' sl' hI => nm_e (ih s sh' sl' (by omega) (by omega) hI)))
theorem zt_x51 {post : SX → Prop} (hM : zt_M c t kx ky lf rg tn) (hnd : zt_ND 0 c t kx lf rg tn nd) (hv : ∀ k, k < c → nd k ≠ 0 → va k = zt_V c kx lf rg P k) (hs0 : ∀ i, i < 4 → sl i = 0) (hp : ∀ sh' sl', (∀ i, i < 4 → sl' i = zt_T c t kx lf rg tn tw P i) → post (nI c, nI t, q, m, kx, lf, rg, tn, tw, ps, mo, va, sh', cg, nd, sl')) : ∀ (n i : Nat) (sh : Nat → Int32), t < n + i → i ≤ t → (∀ k, k < c → nd k = 0 → sh k = 0) → (∀ a, a < 4 → zt_sum (fun j => sh j * zt_D c kx lf rg P (zt_e a) j) c = zt_S i tn tw (zt_D c kx lf rg P (zt_e a))) → wX_sweep_51 post (nI c) (nI t) q m n (nI i) kx lf rg tn tw ps mo va sh cg nd sl := by
  intro n
  induction n with
  | zero => intro i sh h h'; omega
  | succ n ih =>
    intro i sh h1 h2 h3 h4
    have hc := hM.1
    have ht := hM.2.1
    have tk := hM.2.2.2.2
    by_cases h : t ≤ i
    · have e : i = t := by omega
      rw [e] at h4 ⊢
      refine br_t (nI_le (Nat.le_refl _) (by omega)) (nm_r (zt_m1 c) ⟨c + 1, zt_x92 (T := zt_T c t kx lf rg tn tw P) hM hnd hv (fun sh' sl' hI => hp sh' sl' (fun a ha => ?_)) (c + 1) c sh sl (by omega) (Nat.le_refl _) ⟨h3, fun a ha => ?_⟩⟩)
      · have z := hI.2 a ha
        have z2 : zt_sum (fun j => sh' j * zt_D c kx lf rg P (zt_e a) j) 0 = 0 := rfl
        rw [z2, Int32.add_zero] at z
        exact z
      · rw [hs0 a ha, Int32.zero_add]
        exact h4 a ha
    · have i8 : vp_in (nI i) 8 := vp_in_nI (by omega) (by decide)
      have hi : i < t := by omega
      refine br_f (nI_ge (by omega) (by omega)) ⟨i8, ?_⟩
      rw [nI_clamp (n := i) (by omega)]
      have t24 : vp_in (tn i) 24 := zt_mono (tk i hi) hc
      refine ⟨t24, i8, t24, nm_e (nm_r (nI_1 i) (ih (i + 1) _ (by omega) (by omega) (fun k hk hz => ?_) (fun a ha => ?_)))⟩
      · have hq := zt_ND_tm hnd tk hi
        rw [pk_un (fun z => hq (by rw [← z]; exact hz))]
        exact h3 k hk hz
      · rw [zt_sum_upd c (zt_lt (tk i hi)), h4 a ha]
        rfl
theorem zt_x31 {post : SX → Prop} (hM : zt_M c t kx ky lf rg tn) (hnd : zt_ND 0 c t kx lf rg tn nd) (hv : ∀ k, k < c → nd k ≠ 0 → va k = zt_V c kx lf rg P k) (hs0 : ∀ k, k < c → sh k = 0) (hp : ∀ sh' sl', (∀ i, i < 4 → sl' i = zt_T c t kx lf rg tn tw P i) → post (nI c, nI t, q, m, kx, lf, rg, tn, tw, ps, mo, va, sh', cg, nd, sl')) : ∀ (n i : Nat) (sl : Nat → Int32), 4 < n + i → i ≤ 4 → (∀ j, j < i → sl j = 0) → wX_sweep_31 post (nI c) (nI t) q m n (nI i) kx lf rg tn tw ps mo va sh cg nd sl := by
  intro n
  induction n with
  | zero => intro i sl h h'; omega
  | succ n ih =>
    intro i sl h1 h2 h3
    by_cases h : 4 ≤ i
    · have e : i = 4 := by omega
      rw [e] at h3 ⊢
      refine br_t (nI_le (a := 4) (b := 4) (Nat.le_refl _) (by decide)) ⟨t + 1, zt_x51 hM hnd hv h3 hp (t + 1) 0 sh (by omega) (Nat.zero_le _) (fun k hk _ => hs0 k hk) (fun a ha => ?_)⟩
      refine zt_sum_zero c (fun j hj => ?_)
      show sh j * _ = 0
      rw [hs0 j hj]
      grind
    · have i4 : vp_in (nI i) 4 := vp_in_nI (by omega) (by decide)
      refine br_f (nI_ge (b := 4) (by omega) (by decide)) ⟨i4, ?_⟩
      rw [nI_clamp (n := i) (by omega)]
      refine nm_e (nm_r (nI_1 i) (ih (i + 1) _ (by omega) (by omega) ?_))
      intro j hj
      by_cases e : j = i
      · rw [e, pk_us]
      · rw [pk_un e]; exact h3 j (by omega)
theorem zt_x8 {post : SX → Prop} (hM : zt_M c t kx ky lf rg tn) (hnd : zt_ND 0 c t kx lf rg tn nd) (hv : ∀ k, k < c → nd k ≠ 0 → va k = zt_V c kx lf rg P k) (hp : ∀ sh' sl', (∀ i, i < 4 → sl' i = zt_T c t kx lf rg tn tw P i) → post (nI c, nI t, q, m, kx, lf, rg, tn, tw, ps, mo, va, sh', cg, nd, sl')) : ∀ (n i : Nat) (sh : Nat → Int32), c < n + i → i ≤ c → (∀ j, j < i → sh j = 0) → wX_sweep_8 post (nI c) (nI t) q m n (nI i) kx lf rg tn tw ps mo va sh cg nd sl := by
  intro n
  induction n with
  | zero => intro i sh h h'; omega
  | succ n ih =>
    intro i sh h1 h2 h3
    have hc := hM.1
    by_cases h : c ≤ i
    · have e : i = c := by omega
      rw [e] at h3 ⊢
      exact br_t (nI_le (Nat.le_refl _) (by omega)) ⟨5, zt_x31 hM hnd hv h3 hp 5 0 sl (by omega) (by omega) (fun j hj => by omega)⟩
    · have i24 : vp_in (nI i) 24 := vp_in_nI (by omega) (by decide)
      refine br_f (nI_ge (by omega) (by omega)) ⟨i24, ?_⟩
      rw [nI_clamp (n := i) (by omega)]
      refine nm_e (nm_r (nI_1 i) (ih (i + 1) _ (by omega) (by omega) ?_))
      intro j hj
      by_cases e : j = i
      · rw [e, pk_us]
      · rw [pk_un e]; exact h3 j (by omega)
theorem zt_xsweep {post : SX → Prop} {b : Nat} {p : Int32} (ep : p = nI b) (hM : zt_M c t kx ky lf rg tn) (hb : b + 4 ≤ 12) (hn : m = 0 ∨ zt_ND 0 c t kx lf rg tn nd) (hp : ∀ m' va' sh' nd' sl', zt_ND 0 c t kx lf rg tn nd' → (∀ i, i < 4 → sl' i = zt_T c t kx lf rg tn tw (fun i => ps (b + i)) i) → post (nI c, nI t, q, m', kx, lf, rg, tn, tw, ps, mo, va', sh', cg, nd', sl')) : wpX_sweep post (nI c, nI t, q, m, kx, lf, rg, tn, tw, ps, mo, va, sh, cg, nd, sl) p := by
  unfold wpX_sweep
  refine zt_xeval ep hM hb hn (fun m' va' nd' hnd hv => ?_)
  exact ⟨c + 1, zt_x8 hM hnd hv (fun sh' sl' hs => hp m' va' sh' nd' sl' hnd hs) (c + 1) 0 sh (by omega) (Nat.zero_le _) (fun j hj => by omega)⟩

/-! the drift -/
theorem zt_xchg {post : Int32 → Prop} {k b : Nat} {p : Int32} (ok : zt_ok c kx lf rg) (hc : c ≤ 24) (hk : k < c) (ep : p = nI b) (hb : b + 4 ≤ 12) (hp : post (zt_G kx lf rg va (fun i => mo (b + i)) k cg)) : wpX_changed post (nI c, nI t, q, m, kx, lf, rg, tn, tw, ps, mo, va, sh, cg, nd, sl) (nI k) p := by
  have i24 : vp_in (nI k) 24 := vp_in_nI (by omega) (by decide)
  have cl : (nI k).toNatClampNeg = k := nI_clamp (by omega)
  rw [ep]
  unfold wpX_changed
  dsimp only
  rw [cl]
  refine ⟨i24, nm_e ?_⟩
  rcases ok k hk with ⟨e, hl⟩ | e | ⟨e, hl, hr⟩
  · obtain ⟨a, d⟩ := zt_ad hl hb
    rw [zt_G0 e] at hp
    refine br_t e ⟨i24, a, ?_⟩
    rw [d]
    exact hp
  · rw [zt_G1 e] at hp
    exact br_f (by rw [e]; decide) (br_t e hp)
  · have l24 : vp_in (lf k) 24 := zt_mono hl (by omega)
    have r24 : vp_in (rg k) 24 := zt_mono hr (by omega)
    rcases e with e | e | e
    · rw [zt_G2 e] at hp
      exact br_f (by rw [e]; decide) (br_f (by rw [e]; decide) ⟨i24, l24, nm_e ⟨i24, r24, nm_e (br_t e hp)⟩⟩)
    · rw [zt_G3 e] at hp
      exact br_f (by rw [e]; decide) (br_f (by rw [e]; decide) ⟨i24, l24, nm_e ⟨i24, r24, nm_e (br_f (by rw [e]; decide) (br_t e hp))⟩⟩)
    · rw [zt_G4 e] at hp
      rcases e with e | e
      · exact br_f (by rw [e]; decide) (br_f (by rw [e]; decide) ⟨i24, l24, nm_e ⟨i24, r24, nm_e (br_f (by rw [e]; decide) (br_f (by rw [e]; decide) ⟨i24, r24, i24, l24, hp⟩))⟩⟩)
      · exact br_f (by rw [e]; decide) (br_f (by rw [e]; decide) ⟨i24, l24, nm_e ⟨i24, r24, nm_e (br_f (by rw [e]; decide) (br_f (by rw [e]; decide) ⟨i24, r24, i24, l24, hp⟩))⟩⟩)
theorem zt_x61 {post : Int32 → SX → Prop} (hc : c ≤ 24) (ht : t ≤ 8) (tk : ∀ j, j < t → vp_in (tn j) c) (hp : post (zt_S t tn tw cg) (nI c, nI t, q, m, kx, lf, rg, tn, tw, ps, mo, va, sh, cg, nd, sl)) : ∀ (n i : Nat) (x : Int32), t < n + i → i ≤ t → x = zt_S i tn tw cg → wX_drift_61 post (nI c) (nI t) q m kx lf rg tn tw ps mo va sh cg nd sl n x (nI i) := by
  intro n
  induction n with
  | zero => intro i x h h'; omega
  | succ n ih =>
    intro i x h1 h2 h3
    by_cases h : t ≤ i
    · have e : i = t := by omega
      rw [h3, e]
      exact br_t (nI_le (Nat.le_refl _) (by omega)) hp
    · have i8 : vp_in (nI i) 8 := vp_in_nI (by omega) (by decide)
      refine br_f (nI_ge (by omega) (by omega)) ⟨i8, i8, ?_⟩
      rw [nI_clamp (n := i) (by omega)]
      exact ⟨zt_mono (tk i (by omega)) hc, nm_e (nm_r (nI_1 i) (ih (i + 1) _ (by omega) (by omega) (by rw [h3]; rfl)))⟩
theorem zt_x21 {post : Int32 → SX → Prop} {b : Nat} (hM : zt_M c t kx ky lf rg tn) (hb : b + 4 ≤ 12) (hnd : zt_ND 0 c t kx lf rg tn nd) (hv : ∀ k, k < c → nd k ≠ 0 → va k = zt_V c kx lf rg P k) (hp : ∀ cg', post (zt_S t tn tw (zt_D c kx lf rg P (fun i => mo (b + i)))) (nI c, nI t, q, m, kx, lf, rg, tn, tw, ps, mo, va, sh, cg', nd, sl)) : ∀ (n k : Nat) (cg : Nat → Int32), c < n + k → k ≤ c → (∀ j, j < k → nd j ≠ 0 → cg j = zt_D c kx lf rg P (fun i => mo (b + i)) j) → wX_drift_21 post (nI b) (nI c) (nI t) q m n (nI k) kx lf rg tn tw ps mo va sh cg nd sl := by
  obtain ⟨hc, ht, ok, kk, tk⟩ := hM
  intro n
  induction n with
  | zero => intro k cg h h'; omega
  | succ n ih =>
    intro k cg h1 h2 h3
    by_cases h : c ≤ k
    · have e : k = c := by omega
      rw [e] at h3 ⊢
      refine br_t (nI_le (Nat.le_refl _) (by omega)) ⟨t + 1, zt_x61 hc ht tk ?_ (t + 1) 0 0 (by omega) (Nat.zero_le _) rfl⟩
      have e2 := zt_S_nd (tw := tw) hnd tk h3
      rw [e2]
      exact hp cg
    · have hk : k < c := by omega
      have i24 : vp_in (nI k) 24 := vp_in_nI (by omega) (by decide)
      have cl : (nI k).toNatClampNeg = k := nI_clamp (by omega)
      refine br_f (nI_ge (by omega) (by omega)) ⟨i24, ?_⟩
      rw [cl]
      by_cases hn : nd k = 0
      · refine br_t hn (nm_r (nI_1 k) (ih (k + 1) cg (by omega) (by omega) ?_))
        intro j hj hz
        by_cases e : j = k
        · rw [e] at hz; exact absurd hn hz
        · exact h3 j (by omega) hz
      · refine br_f hn (zt_xchg ok hc hk rfl hb ⟨i24, nm_e (nm_r (nI_1 k) (ih (k + 1) _ (by omega) (by omega) ?_))⟩)
        intro j hj hz
        by_cases e : j = k
        · rw [e, pk_us, zt_D_eq ok hk]
          refine zt_G_parts ok hk (fun hq => ?_)
          obtain ⟨a, d⟩ := zt_ok_p ok hk hq
          obtain ⟨na, nb⟩ := zt_ND_cl ok hnd hk hn hq
          exact ⟨h3 _ (zt_lt a) na, h3 _ (zt_lt d) nb, hv _ (Nat.lt_trans (zt_lt a) hk) na, hv _ (Nat.lt_trans (zt_lt d) hk) nb⟩
        · rw [pk_un e]
          exact h3 j (by omega) hz
end
end
section
/-! the reference: values and rates node by node, the sums, live -/
section
variable {c t : Nat} {q m : Int32} {kx ky lf rg tn tw ps mo va sh cg nd sl vb rb sb us : Nat → Int32}
theorem zt_y2 {post : SY → Prop} {h i : Nat} (hM : zt_M c t kx ky lf rg tn) (hh : h < 3) (hi : i < 4) (hp : ∀ vb' rb', (∀ k, k < c → vb' k = zt_V c kx lf rg (fun i => ps (4 * h + i)) k) → (∀ k, k < c → rb' k = zt_D c kx lf rg (fun i => ps (4 * h + i)) (zt_e i) k) → post (nI c, nI t, q, ky, lf, rg, tn, tw, ps, mo, vb', rb', sb, us)) : ∀ (n k : Nat) (vb rb : Nat → Int32), c < n + k → k ≤ c → (∀ j, j < k → vb j = zt_V c kx lf rg (fun i => ps (4 * h + i)) j) → (∀ j, j < k → rb j = zt_D c kx lf rg (fun i => ps (4 * h + i)) (zt_e i) j) → wY_work_2 post (nI h) (nI i) (nI c) (nI t) q n (nI k) ky lf rg tn tw ps mo vb rb sb us := by
  obtain ⟨hc, ht, ok, kk, tk⟩ := hM
  intro n
  induction n with
  | zero => intro k vb rb h h'; omega
  | succ n ih =>
    intro k vb rb h1 h2 h3 h4
    by_cases hx : c ≤ k
    · have e : k = c := by omega
      rw [e] at h3 h4 ⊢
      exact br_t (nI_le (Nat.le_refl _) (by omega)) (hp vb rb h3 h4)
    · have hk : k < c := by omega
      have i24 : vp_in (nI k) 24 := vp_in_nI (by omega) (by decide)
      have cl : (nI k).toNatClampNeg = k := nI_clamp (by omega)
      have go : ∀ v r : Int32, v = zt_F kx lf rg (fun i => ps (4 * h + i)) k vb → r = zt_G kx lf rg (zt_V c kx lf rg (fun i => ps (4 * h + i))) (zt_e i) k rb → wY_work_2 post (nI h) (nI i) (nI c) (nI t) q n (nI (k + 1)) ky lf rg tn tw ps mo (upd vb k v) (upd rb k r) sb us := by
        intro v r ev er
        refine ih (k + 1) _ _ (by omega) (by omega) (fun j hj => ?_) (fun j hj => ?_)
        · by_cases e : j = k
          · rw [e, pk_us, ev, zt_V_eq ok hk]
            refine zt_F_parts ok hk (fun hq => ?_)
            obtain ⟨a, d⟩ := zt_ok_p ok hk hq
            exact ⟨h3 _ (zt_lt a), h3 _ (zt_lt d)⟩
          · rw [pk_un e]
            exact h3 j (by omega)
        · by_cases e : j = k
          · rw [e, pk_us, er, zt_D_eq ok hk]
            refine zt_G_parts ok hk (fun hq => ?_)
            obtain ⟨a, d⟩ := zt_ok_p ok hk hq
            exact ⟨h4 _ (zt_lt a), h4 _ (zt_lt d), rfl, rfl⟩
          · rw [pk_un e]
            exact h4 j (by omega)
      refine br_f (nI_ge (by omega) (by omega)) (br_f (nI_ge (b := 24) (by omega) (by decide)) ⟨i24, ?_⟩)
      rw [cl]
      refine nm_e ⟨i24, nm_e ⟨i24, ?_⟩⟩
      have pts : ¬ kx k < 2 → vp_in (lf k) k ∧ vp_in (rg k) k := zt_ok_p ok hk
      rcases kk k hk with ⟨e, e'⟩ | ⟨e, e'⟩ | ⟨e, e'⟩ | ⟨e, e'⟩ | ⟨e, e'⟩ | ⟨e, e'⟩
      · have hl : vp_in (lf k) 4 := by
          rcases ok k hk with ⟨_, z⟩ | z | ⟨z, _⟩
          · exact z
          · rw [e] at z; exact absurd z (by decide)
          · rw [e] at z; exact absurd z (by decide)
        have b12 : 4 * h + 4 ≤ 12 := by omega
        obtain ⟨a, d⟩ := zt_ad hl b12
        have a2 : vp_in (4 * nI h + lf k) 12 := by rw [zt_4]; exact a
        have d2 : (4 * nI h + lf k).toNatClampNeg = 4 * h + (lf k).toNatClampNeg := by rw [zt_4]; exact d
        refine br_t e' ⟨a2, i24, nm_r (congrArg (fun z => upd vb k (ps z)) d2) ?_⟩
        by_cases z : lf k = nI i
        · exact br_t z ⟨i24, nm_e (nm_r (nI_1 k) (go _ _ (by rw [zt_F0 e]) (by rw [zt_G0 e, z, nI_clamp (by omega)]; exact (if_pos rfl).symm)))⟩
        · refine br_f z ⟨i24, nm_e (nm_r (nI_1 k) (go _ _ (by rw [zt_F0 e]) ?_))⟩
          rw [zt_G0 e]
          refine (if_neg (fun w => z ?_)).symm
          obtain ⟨y, hy, ey⟩ := vp_in_of hl (by decide)
          rw [ey, nI_clamp (by omega)] at w
          rw [ey, w]
      · exact br_f (by rw [e']; decide) ⟨i24, br_t e' ⟨i24, nm_e ⟨i24, nm_e (nm_r (nI_1 k) (go _ _ (by rw [zt_F1 e]) (by rw [zt_G1 e])))⟩⟩⟩
      · obtain ⟨pl, pr⟩ := pts (by rw [e]; decide)
        have l24 : vp_in (lf k) 24 := zt_mono pl (by omega)
        have r24 : vp_in (rg k) 24 := zt_mono pr (by omega)
        exact br_f (by rw [e']; decide) ⟨i24, br_f (by rw [e']; decide) ⟨i24, br_t e' ⟨l24, r24, i24, nm_e ⟨l24, r24, i24, nm_e (nm_r (nI_1 k) (go _ _ (by rw [zt_F2 e]) (by rw [zt_G2 e])))⟩⟩⟩⟩
      · obtain ⟨pl, pr⟩ := pts (by rw [e]; decide)
        have l24 : vp_in (lf k) 24 := zt_mono pl (by omega)
        have r24 : vp_in (rg k) 24 := zt_mono pr (by omega)
        exact br_f (by rw [e']; decide) ⟨i24, br_f (by rw [e']; decide) ⟨i24, br_f (by rw [e']; decide) ⟨i24, br_t e' ⟨l24, r24, i24, nm_e ⟨l24, r24, i24, nm_e (nm_r (nI_1 k) (go _ _ (by rw [zt_F3 e]) (by rw [zt_G3 e])))⟩⟩⟩⟩⟩
      · obtain ⟨pl, pr⟩ := pts (by rw [e]; decide)
        have l24 : vp_in (lf k) 24 := zt_mono pl (by omega)
        have r24 : vp_in (rg k) 24 := zt_mono pr (by omega)
        have el : ∀ v, upd vb k v (lf k).toNatClampNeg = zt_V c kx lf rg (fun i => ps (4 * h + i)) (lf k).toNatClampNeg := fun v => (pk_un (Nat.ne_of_lt (zt_lt pl))).trans (h3 _ (zt_lt pl))
        have er : ∀ v, upd vb k v (rg k).toNatClampNeg = zt_V c kx lf rg (fun i => ps (4 * h + i)) (rg k).toNatClampNeg := fun v => (pk_un (Nat.ne_of_lt (zt_lt pr))).trans (h3 _ (zt_lt pr))
        exact br_f (by rw [e']; decide) ⟨i24, br_f (by rw [e']; decide) ⟨i24, br_f (by rw [e']; decide) ⟨i24, br_f (by rw [e']; decide) ⟨l24, r24, i24, nm_e ⟨l24, r24, l24, r24, i24, nm_e (nm_r (nI_1 k) (go _ _ (by rw [zt_F4 (Or.inl e)]) (by rw [zt_G4 (Or.inl e), el, er])))⟩⟩⟩⟩⟩
      · obtain ⟨pl, pr⟩ := pts (by rw [e]; decide)
        have l24 : vp_in (lf k) 24 := zt_mono pl (by omega)
        have r24 : vp_in (rg k) 24 := zt_mono pr (by omega)
        have el : ∀ v, upd vb k v (lf k).toNatClampNeg = zt_V c kx lf rg (fun i => ps (4 * h + i)) (lf k).toNatClampNeg := fun v => (pk_un (Nat.ne_of_lt (zt_lt pl))).trans (h3 _ (zt_lt pl))
        have er : ∀ v, upd vb k v (rg k).toNatClampNeg = zt_V c kx lf rg (fun i => ps (4 * h + i)) (rg k).toNatClampNeg := fun v => (pk_un (Nat.ne_of_lt (zt_lt pr))).trans (h3 _ (zt_lt pr))
        exact br_f (by rw [e']; decide) ⟨i24, br_f (by rw [e']; decide) ⟨i24, br_f (by rw [e']; decide) ⟨i24, br_f (by rw [e']; decide) ⟨l24, r24, i24, nm_e ⟨l24, r24, l24, r24, i24, nm_e (nm_r (nI_1 k) (go _ _ (by rw [zt_F4 (Or.inr e)]) (by rw [zt_G4 (Or.inr e), el, er])))⟩⟩⟩⟩⟩
theorem zt_ywork {post : SY → Prop} {h i : Nat} (hM : zt_M c t kx ky lf rg tn) (hh : h < 3) (hi : i < 4) (hp : ∀ vb' rb', (∀ k, k < c → vb' k = zt_V c kx lf rg (fun i => ps (4 * h + i)) k) → (∀ k, k < c → rb' k = zt_D c kx lf rg (fun i => ps (4 * h + i)) (zt_e i) k) → post (nI c, nI t, q, ky, lf, rg, tn, tw, ps, mo, vb', rb', sb, us)) : wpY_work post (nI c, nI t, q, ky, lf, rg, tn, tw, ps, mo, vb, rb, sb, us) (nI h) (nI i) :=
  ⟨c + 1, zt_y2 hM hh hi hp (c + 1) 0 vb rb (by omega) (Nat.zero_le _) (fun j hj => by omega) (fun j hj => by omega)⟩
theorem zt_yt4 {post : Int32 → Prop} (hc : c ≤ 24) (ht : t ≤ 8) (tk : ∀ j, j < t → vp_in (tn j) c) (hp : post (zt_S t tn tw vb)) : ∀ (n i : Nat) (x : Int32), t < n + i → i ≤ t → x = zt_S i tn tw vb → wY_total_4 post (nI c) (nI t) q ky lf rg tn tw ps mo vb rb sb us n x (nI i) := by
  intro n
  induction n with
  | zero => intro i x h h'; omega
  | succ n ih =>
    intro i x h1 h2 h3
    by_cases h : t ≤ i
    · have e : i = t := by omega
      rw [h3, e]
      exact br_t (nI_le (Nat.le_refl _) (by omega)) hp
    · have i8 : vp_in (nI i) 8 := vp_in_nI (by omega) (by decide)
      refine br_f (nI_ge (by omega) (by omega)) (br_f (nI_ge (b := 8) (by omega) (by decide)) ⟨i8, i8, ?_⟩)
      rw [nI_clamp (n := i) (by omega)]
      exact ⟨zt_mono (tk i (by omega)) hc, nm_e (nm_r (nI_1 i) (ih (i + 1) _ (by omega) (by omega) (by rw [h3]; rfl)))⟩
theorem zt_ys4 {post : Int32 → Prop} (hc : c ≤ 24) (ht : t ≤ 8) (tk : ∀ j, j < t → vp_in (tn j) c) (hp : post (zt_S t tn tw rb)) : ∀ (n i : Nat) (x : Int32), t < n + i → i ≤ t → x = zt_S i tn tw rb → wY_steepness_4 post (nI c) (nI t) q ky lf rg tn tw ps mo vb rb sb us n x (nI i) := by
  intro n
  induction n with
  | zero => intro i x h h'; omega
  | succ n ih =>
    intro i x h1 h2 h3
    by_cases h : t ≤ i
    · have e : i = t := by omega
      rw [h3, e]
      exact br_t (nI_le (Nat.le_refl _) (by omega)) hp
    · have i8 : vp_in (nI i) 8 := vp_in_nI (by omega) (by decide)
      refine br_f (nI_ge (by omega) (by omega)) (br_f (nI_ge (b := 8) (by omega) (by decide)) ⟨i8, i8, ?_⟩)
      rw [nI_clamp (n := i) (by omega)]
      exact ⟨zt_mono (tk i (by omega)) hc, nm_e (nm_r (nI_1 i) (ih (i + 1) _ (by omega) (by omega) (by rw [h3]; rfl)))⟩
theorem zt_ytot {post : Int32 → Prop} {P : Nat → Int32} (hM : zt_M c t kx ky lf rg tn) (hv : ∀ k, k < c → vb k = zt_V c kx lf rg P k) (hp : post (zt_Z c t kx lf rg tn tw P)) : wpY_total post (nI c, nI t, q, ky, lf, rg, tn, tw, ps, mo, vb, rb, sb, us) := by
  obtain ⟨hc, ht, ok, kk, tk⟩ := hM
  refine ⟨t + 1, zt_yt4 hc ht tk ?_ (t + 1) 0 0 (by omega) (Nat.zero_le _) rfl⟩
  have e := zt_S_all (tw := tw) tk hv
  rw [e]
  exact hp
theorem zt_yste {post : Int32 → Prop} {P : Nat → Int32} {i : Nat} (hM : zt_M c t kx ky lf rg tn) (hv : ∀ k, k < c → rb k = zt_D c kx lf rg P (zt_e i) k) (hp : post (zt_T c t kx lf rg tn tw P i)) : wpY_steepness post (nI c, nI t, q, ky, lf, rg, tn, tw, ps, mo, vb, rb, sb, us) := by
  obtain ⟨hc, ht, ok, kk, tk⟩ := hM
  refine ⟨t + 1, zt_ys4 hc ht tk ?_ (t + 1) 0 0 (by omega) (Nat.zero_le _) rfl⟩
  have e := zt_S_all (tw := tw) tk hv
  rw [e]
  exact hp

/-! live -/
theorem zt_y64 {post : Int32 → SY → Prop} {U : Nat → Int32} (hM : zt_M c t kx ky lf rg tn) (hU : zt_ND 0 c t kx lf rg tn U) (hp : ∀ us', post (zt_sum (zt_ind U) c) (nI c, nI t, q, ky, lf, rg, tn, tw, ps, mo, vb, rb, sb, us')) : ∀ (n s : Nat) (x : Int32) (us : Nat → Int32), s < n → s ≤ c → zt_ND s c t kx lf rg tn us → x + zt_sum (zt_ind U) s = zt_sum (zt_ind U) c → wY_live_64 post (nI c) (nI t) q n x (nI s + (-1)) ky lf rg tn tw ps mo vb rb sb us := by
  obtain ⟨hc, ht, ok, kk, tk⟩ := hM
  intro n
  induction n with
  | zero => intro s x us h; omega
  | succ n ih =>
    intro s x us h1 h2 h3 h4
    cases s with
    | zero =>
      have e : x = zt_sum (zt_ind U) c := by
        rw [← h4]
        exact (Int32.add_zero x).symm
      rw [e]
      exact br_t (by decide) (hp us)
    | succ s =>
      rw [pk_m1 s]
      have hs : s < 2 ^ 31 := by omega
      have hsc : s < c := by omega
      have i24 : vp_in (nI s) 24 := vp_in_nI (by omega) (by decide)
      have cl := nI_clamp hs
      have ag := zt_ND_agree ok h3 hU c s (by omega) (by omega) hsc
      have es : zt_sum (zt_ind U) (s + 1) = zt_sum (zt_ind U) s + zt_ind U s := rfl
      rw [es] at h4
      refine br_f (nI_pos hs) (br_f (nI_ge (b := 24) (by omega) (by decide)) ⟨i24, ?_⟩)
      rw [cl]
      by_cases hn : us s = 0
      · have uz : U s = 0 := Decidable.byContradiction (fun z => ag.mpr z hn)
        rw [zt_ind0 uz, Int32.add_zero] at h4
        exact br_t hn (nm_e (ih s x us (by omega) (by omega) (zt_ND_skip h3 (Or.inl hn)) h4))
      · have un : ¬ U s = 0 := ag.mp hn
        rw [zt_ind1 un] at h4
        have h5 : x + 1 + zt_sum (zt_ind U) s = zt_sum (zt_ind U) c := by
          rw [← h4]
          grind
        refine br_f hn (nm_e ⟨i24, ?_⟩)
        have two : (kx s < 2 ∧ (4 : Int32) ≤ ky s) ∨ (¬ kx s < 2 ∧ ¬ (4 : Int32) ≤ ky s) := by
          rcases kk s hsc with ⟨e, e'⟩ | ⟨e, e'⟩ | ⟨e, e'⟩ | ⟨e, e'⟩ | ⟨e, e'⟩ | ⟨e, e'⟩ <;> rw [e, e'] <;> decide
        rcases two with ⟨hk, hy⟩ | ⟨hk, hy⟩
        · exact br_t hy (nm_e (ih s _ us (by omega) (by omega) (zt_ND_skip h3 (Or.inr hk)) h5))
        · obtain ⟨hl, hr⟩ := zt_ok_p ok hsc hk
          exact br_f hy ⟨i24, zt_mono hl (by omega), nm_e ⟨i24, zt_mono hr (by omega), nm_e (nm_e (ih s _ _ (by omega) (by omega) (zt_ND_mark h3 hsc hn hk hl hr) h5))⟩⟩
theorem zt_y23 {post : Int32 → SY → Prop} {U : Nat → Int32} (hM : zt_M c t kx ky lf rg tn) (hU : zt_ND 0 c t kx lf rg tn U) (hp : ∀ us', post (zt_sum (zt_ind U) c) (nI c, nI t, q, ky, lf, rg, tn, tw, ps, mo, vb, rb, sb, us')) : ∀ (n i : Nat) (us : Nat → Int32), t < n + i → i ≤ t → zt_TM tn i us → wY_live_23 post (nI c) (nI t) q n (nI i) ky lf rg tn tw ps mo vb rb sb us := by
  intro n
  induction n with
  | zero => intro i us h h'; omega
  | succ n ih =>
    intro i us h1 h2 h3
    have hc := hM.1
    have ht := hM.2.1
    have tk := hM.2.2.2.2
    by_cases h : t ≤ i
    · have e : i = t := by omega
      rw [e] at h3 ⊢
      exact br_t (nI_le (Nat.le_refl _) (by omega)) (nm_r (zt_m1 c) ⟨c + 1, zt_y64 hM hU hp (c + 1) c 0 us (by omega) (Nat.le_refl _) (zt_TM_ND hc h3) (Int32.zero_add _)⟩)
    · have i8 : vp_in (nI i) 8 := vp_in_nI (by omega) (by decide)
      refine br_f (nI_ge (by omega) (by omega)) (br_f (nI_ge (b := 8) (by omega) (by decide)) ⟨i8, ?_⟩)
      rw [nI_clamp (n := i) (by omega)]
      exact ⟨zt_mono (tk i (by omega)) hc, nm_e (nm_r (nI_1 i) (ih (i + 1) _ (by omega) (by omega) (zt_TM_s h3)))⟩
theorem zt_yl2 {post : Int32 → SY → Prop} {U : Nat → Int32} (hM : zt_M c t kx ky lf rg tn) (hU : zt_ND 0 c t kx lf rg tn U) (hp : ∀ us', post (zt_sum (zt_ind U) c) (nI c, nI t, q, ky, lf, rg, tn, tw, ps, mo, vb, rb, sb, us')) : ∀ (n i : Nat) (us : Nat → Int32), 24 < n + i → i ≤ 24 → (∀ j, j < i → us j = 0) → wY_live_2 post (nI c) (nI t) q n (nI i) ky lf rg tn tw ps mo vb rb sb us := by
  intro n
  induction n with
  | zero => intro i us h h'; omega
  | succ n ih =>
    intro i us h1 h2 h3
    by_cases h : 24 ≤ i
    · have e : i = 24 := by omega
      rw [e] at h3 ⊢
      exact br_t (nI_le (a := 24) (b := 24) (Nat.le_refl _) (by decide)) ⟨t + 1, zt_y23 hM hU hp (t + 1) 0 us (by omega) (Nat.zero_le _) (zt_TM_0 h3)⟩
    · have i24 : vp_in (nI i) 24 := vp_in_nI (by omega) (by decide)
      refine br_f (nI_ge (b := 24) (by omega) (by decide)) ⟨i24, ?_⟩
      rw [nI_clamp (n := i) (by omega)]
      refine nm_e (nm_r (nI_1 i) (ih (i + 1) _ (by omega) (by omega) ?_))
      intro j hj
      by_cases e : j = i
      · rw [e, pk_us]; rfl
      · rw [pk_un e]; exact h3 j (by omega)
end
end
section
/-! the loops over a chain's four cells: one iterate for both sides -/
def zt_fo (b : Nat) (g : Nat → (Nat → Int32) → Int32) (f : Nat → Int32) : Nat → (Nat → Int32)
  | 0 => f
  | i + 1 => upd (zt_fo b g f i) (b + i) (g i (zt_fo b g f i))
theorem zt_fo_congr {b : Nat} {g g' : Nat → (Nat → Int32) → Int32} {f : Nat → Int32} : ∀ n : Nat, (∀ i, i < n → ∀ f, g i f = g' i f) → zt_fo b g f n = zt_fo b g' f n := by
  intro n
  induction n with
  | zero => intro _; rfl
  | succ n ih =>
    intro h
    show upd (zt_fo b g f n) (b + n) (g n (zt_fo b g f n)) = upd (zt_fo b g' f n) (b + n) (g' n (zt_fo b g' f n))
    rw [ih (fun i hi => h i (by omega)), h n (by omega)]
/-- kick, move, turn, copy -/
def zt_gk (b : Nat) (q : Int32) (sl : Nat → Int32) (i : Nat) (f : Nat → Int32) : Int32 := f (b + i) + (sl i >>> (q &&& 31))
def zt_gm (b : Nat) (mo : Nat → Int32) (i : Nat) (f : Nat → Int32) : Int32 := f (b + i) + mo (b + i)
def zt_gt (b : Nat) (i : Nat) (f : Nat → Int32) : Int32 := -(f (b + i))
def zt_gc (a : Nat) (i : Nat) (f : Nat → Int32) : Int32 := f (a + i)
theorem zt_gk_congr {b : Nat} {q : Int32} {sl sl' f : Nat → Int32} (h : ∀ i, i < 4 → sl i = sl' i) : zt_fo b (zt_gk b q sl) f 4 = zt_fo b (zt_gk b q sl') f 4 := by
  refine zt_fo_congr 4 (fun i hi f => ?_)
  show f (b + i) + (sl i >>> (q &&& 31)) = f (b + i) + (sl' i >>> (q &&& 31))
  rw [h i hi]
section
variable {c t : Nat} {q m : Int32} {kx ky lf rg tn tw ps mo va sh cg nd sl vb rb sb us : Nat → Int32}
theorem zt_xk2 {post : SX → Prop} {b : Nat} (hb : b + 4 ≤ 12) (hp : post (nI c, nI t, q, m, kx, lf, rg, tn, tw, ps, zt_fo b (zt_gk b q sl) mo 4, va, sh, cg, nd, sl)) : ∀ (n i : Nat) (mo' : Nat → Int32), 4 < n + i → i ≤ 4 → mo' = zt_fo b (zt_gk b q sl) mo i → wX_kick_2 post (nI b) (nI c) (nI t) q m n (nI i) kx lf rg tn tw ps mo' va sh cg nd sl := by
  intro n
  induction n with
  | zero => intro i mo' h h'; omega
  | succ n ih =>
    intro i mo' h1 h2 h3
    by_cases h : 4 ≤ i
    · have e : i = 4 := by omega
      rw [e] at h3 ⊢
      rw [h3]
      exact br_t (nI_le (a := 4) (b := 4) (Nat.le_refl _) (by decide)) hp
    · have i4 : vp_in (nI i) 4 := vp_in_nI (by omega) (by decide)
      have hi : i < 4 := by omega
      obtain ⟨a, d⟩ := zt_adN hi hb
      refine br_f (nI_ge (b := 4) (by omega) (by decide)) ⟨a, i4, a, ?_⟩
      rw [d, nI_clamp (n := i) (by omega)]
      exact nm_e (nm_r (nI_1 i) (ih (i + 1) _ (by omega) (by omega) (by rw [h3]; rfl)))
theorem zt_xkick {post : SX → Prop} {b : Nat} {p : Int32} {T : Nat → Int32} (ep : p = nI b) (hb : b + 4 ≤ 12) (hs : ∀ i, i < 4 → sl i = T i) (hp : post (nI c, nI t, q, m, kx, lf, rg, tn, tw, ps, zt_fo b (zt_gk b q T) mo 4, va, sh, cg, nd, sl)) : wpX_kick post (nI c, nI t, q, m, kx, lf, rg, tn, tw, ps, mo, va, sh, cg, nd, sl) p := by
  rw [ep]
  rw [← zt_gk_congr hs] at hp
  exact ⟨5, zt_xk2 hb hp 5 0 mo (by omega) (by omega) rfl⟩
theorem zt_y31 {post : SY → Prop} {h : Nat} (hh : h < 3) (hp : post (nI c, nI t, q, ky, lf, rg, tn, tw, ps, zt_fo (4 * h) (zt_gk (4 * h) q sb) mo 4, vb, rb, sb, us)) : ∀ (n i : Nat) (mo' : Nat → Int32), 4 < n + i → i ≤ 4 → mo' = zt_fo (4 * h) (zt_gk (4 * h) q sb) mo i → wY_kick_31 post (nI h) (nI c) (nI t) q n (nI i) ky lf rg tn tw ps mo' vb rb sb us := by
  intro n
  induction n with
  | zero => intro i mo' h h'; omega
  | succ n ih =>
    intro i mo' h1 h2 h3
    by_cases hx : 4 ≤ i
    · have e : i = 4 := by omega
      rw [e] at h3 ⊢
      rw [h3]
      exact br_t (nI_le (a := 4) (b := 4) (Nat.le_refl _) (by decide)) hp
    · have i4 : vp_in (nI i) 4 := vp_in_nI (by omega) (by decide)
      have hi : i < 4 := by omega
      obtain ⟨a, d⟩ := zt_cell hh hi
      refine br_f (nI_ge (b := 4) (by omega) (by decide)) ⟨a, i4, a, ?_⟩
      rw [d, nI_clamp (n := i) (by omega)]
      exact nm_e (nm_r (nI_1 i) (ih (i + 1) _ (by omega) (by omega) (by rw [h3]; rfl)))
theorem zt_yk2 {post : SY → Prop} {h : Nat} (hM : zt_M c t kx ky lf rg tn) (hh : h < 3) (hp : ∀ vb' rb' sb', post (nI c, nI t, q, ky, lf, rg, tn, tw, ps, zt_fo (4 * h) (zt_gk (4 * h) q (zt_T c t kx lf rg tn tw (fun i => ps (4 * h + i)))) mo 4, vb', rb', sb', us)) : ∀ (n i : Nat) (vb rb sb : Nat → Int32), 4 < n + i → i ≤ 4 → (∀ j, j < i → sb j = zt_T c t kx lf rg tn tw (fun i => ps (4 * h + i)) j) → wY_kick_2 post (nI h) n (nI i) (nI c) (nI t) q ky lf rg tn tw ps mo vb rb sb us := by
  intro n
  induction n with
  | zero => intro i vb rb sb h h'; omega
  | succ n ih =>
    intro i vb rb sb h1 h2 h3
    by_cases hx : 4 ≤ i
    · have e : i = 4 := by omega
      rw [e] at h3 ⊢
      have hp2 := hp vb rb sb
      rw [← zt_gk_congr h3] at hp2
      exact br_t (nI_le (a := 4) (b := 4) (Nat.le_refl _) (by decide)) ⟨5, zt_y31 hh hp2 5 0 mo (by omega) (by omega) rfl⟩
    · have i4 : vp_in (nI i) 4 := vp_in_nI (by omega) (by decide)
      have hi : i < 4 := by omega
      refine br_f (nI_ge (b := 4) (by omega) (by decide)) (zt_ywork hM hh hi (fun vb' rb' hv hr => zt_yste hM hr ⟨i4, ?_⟩))
      rw [nI_clamp (n := i) (by omega)]
      refine nm_e (nm_r (nI_1 i) (ih (i + 1) _ _ _ (by omega) (by omega) (fun j hj => ?_)))
      by_cases e : j = i
      · rw [e, pk_us]
      · rw [pk_un e]; exact h3 j (by omega)
theorem zt_ykick {post : SY → Prop} {h : Nat} (hM : zt_M c t kx ky lf rg tn) (hh : h < 3) (hp : ∀ vb' rb' sb', post (nI c, nI t, q, ky, lf, rg, tn, tw, ps, zt_fo (4 * h) (zt_gk (4 * h) q (zt_T c t kx lf rg tn tw (fun i => ps (4 * h + i)))) mo 4, vb', rb', sb', us)) : wpY_kick post (nI c, nI t, q, ky, lf, rg, tn, tw, ps, mo, vb, rb, sb, us) (nI h) :=
  ⟨5, zt_yk2 hM hh hp 5 0 vb rb sb (by omega) (by omega) (fun j hj => by omega)⟩
theorem zt_x13 {post : Int32 → SX → Prop} {h : Nat} (hh : h < 3) (hp : post 0 (nI c, nI t, q, m, kx, lf, rg, tn, tw, ps, zt_fo (4 * h) (zt_gt (4 * h)) mo 4, va, sh, cg, nd, sl)) : ∀ (n i : Nat) (mo' : Nat → Int32), 4 < n + i → i ≤ 4 → mo' = zt_fo (4 * h) (zt_gt (4 * h)) mo i → wX_turn_13 post (nI h) (nI c) (nI t) q m n (nI (4 * h + i)) kx lf rg tn tw ps mo' va sh cg nd sl := by
  intro n
  induction n with
  | zero => intro i mo' h h'; omega
  | succ n ih =>
    intro i mo' h1 h2 h3
    have e4 : (4 : Int32) * nI h + 4 = nI (4 * h + 4) := by
      rw [zt_4]
      exact nI_add _ 4
    by_cases hx : 4 ≤ i
    · have e : i = 4 := by omega
      rw [e] at h3 ⊢
      rw [h3]
      exact br_t (by rw [e4]; exact nI_le (Nat.le_refl _) (by omega)) hp
    · have hi : i < 4 := by omega
      have a : vp_in (nI (4 * h + i)) 12 := vp_in_nI (by omega) (by decide)
      refine br_f (by rw [e4]; exact nI_ge (by omega) (by omega)) ⟨a, a, ?_⟩
      rw [nI_clamp (n := 4 * h + i) (by omega)]
      exact nm_e (nm_r (nI_1 (4 * h + i)) (ih (i + 1) _ (by omega) (by omega) (by rw [h3]; rfl)))
theorem zt_y12 {post : Int32 → SY → Prop} {h : Nat} (hh : h < 3) (hp : post 0 (nI c, nI t, q, ky, lf, rg, tn, tw, ps, zt_fo (4 * h) (zt_gt (4 * h)) mo 4, vb, rb, sb, us)) : ∀ (n i : Nat) (mo' : Nat → Int32), 4 < n + i → i ≤ 4 → mo' = zt_fo (4 * h) (zt_gt (4 * h)) mo i → wY_turn_12 post (nI h) (nI c) (nI t) q n (nI i) ky lf rg tn tw ps mo' vb rb sb us := by
  intro n
  induction n with
  | zero => intro i mo' h h'; omega
  | succ n ih =>
    intro i mo' h1 h2 h3
    by_cases hx : 4 ≤ i
    · have e : i = 4 := by omega
      rw [e] at h3 ⊢
      rw [h3]
      exact br_t (nI_le (a := 4) (b := 4) (Nat.le_refl _) (by decide)) hp
    · have hi : i < 4 := by omega
      obtain ⟨a, d⟩ := zt_cell hh hi
      refine br_f (nI_ge (b := 4) (by omega) (by decide)) ⟨a, a, ?_⟩
      rw [d]
      exact nm_e (nm_r (nI_1 i) (ih (i + 1) _ (by omega) (by omega) (by rw [h3]; rfl)))
theorem zt_x18 {post : Int32 → SX → Prop} {f h : Nat} (hf : f < 3) (hh : h < 3) (hp : post 0 (nI c, nI t, q, m, kx, lf, rg, tn, tw, zt_fo (4 * h) (zt_gc (4 * f)) ps 4, zt_fo (4 * h) (zt_gc (4 * f)) mo 4, va, sh, cg, nd, sl)) : ∀ (n i : Nat) (ps' mo' : Nat → Int32), 4 < n + i → i ≤ 4 → ps' = zt_fo (4 * h) (zt_gc (4 * f)) ps i → mo' = zt_fo (4 * h) (zt_gc (4 * f)) mo i → wX_copy_18 post (nI f) (nI h) (nI c) (nI t) q m n (nI i) kx lf rg tn tw ps' mo' va sh cg nd sl := by
  intro n
  induction n with
  | zero => intro i ps' mo' h h'; omega
  | succ n ih =>
    intro i ps' mo' h1 h2 h3 h4
    by_cases hx : 4 ≤ i
    · have e : i = 4 := by omega
      rw [e] at h3 h4 ⊢
      rw [h3, h4]
      exact br_t (nI_le (a := 4) (b := 4) (Nat.le_refl _) (by decide)) hp
    · have hi : i < 4 := by omega
      obtain ⟨a, d⟩ := zt_cell hf hi
      obtain ⟨a2, d2⟩ := zt_cell hh hi
      refine br_f (nI_ge (b := 4) (by omega) (by decide)) ⟨a, a2, ?_⟩
      rw [d, d2]
      exact nm_e ⟨a, a2, nm_e (nm_r (nI_1 i) (ih (i + 1) _ _ (by omega) (by omega) (by rw [h3]; rfl) (by rw [h4]; rfl)))⟩
theorem zt_y20 {post : Int32 → SY → Prop} {f h : Nat} (hf : f < 3) (hh : h < 3) (hp : post 0 (nI c, nI t, q, ky, lf, rg, tn, tw, zt_fo (4 * h) (zt_gc (4 * f)) ps 4, zt_fo (4 * h) (zt_gc (4 * f)) mo 4, vb, rb, sb, us)) : ∀ (n i : Nat) (ps' mo' : Nat → Int32), 4 < n + i → i ≤ 4 → ps' = zt_fo (4 * h) (zt_gc (4 * f)) ps i → mo' = zt_fo (4 * h) (zt_gc (4 * f)) mo i → wY_copy_20 post (nI f) (nI h) (nI c) (nI t) q n (nI i) ky lf rg tn tw ps' mo' vb rb sb us := by
  intro n
  induction n with
  | zero => intro i ps' mo' h h'; omega
  | succ n ih =>
    intro i ps' mo' h1 h2 h3 h4
    by_cases hx : 4 ≤ i
    · have e : i = 4 := by omega
      rw [e] at h3 h4 ⊢
      rw [h3, h4]
      exact br_t (nI_le (a := 4) (b := 4) (Nat.le_refl _) (by decide)) hp
    · have hi : i < 4 := by omega
      obtain ⟨a, d⟩ := zt_cell hf hi
      obtain ⟨a2, d2⟩ := zt_cell hh hi
      refine br_f (nI_ge (b := 4) (by omega) (by decide)) ⟨a, a2, ?_⟩
      rw [d, d2]
      exact nm_e ⟨a, a2, nm_e (nm_r (nI_1 i) (ih (i + 1) _ _ (by omega) (by omega) (by rw [h3]; rfl) (by rw [h4]; rfl)))⟩
/-- the reference's drift -/
theorem zt_y14 {post : Int32 → SY → Prop} {h : Nat} (hM : zt_M c t kx ky lf rg tn) (hh : h < 3) (hp : ∀ vb' rb', post (zt_sum (fun j => mo (4 * h + j) * zt_T c t kx lf rg tn tw (fun i => ps (4 * h + i)) j) 4) (nI c, nI t, q, ky, lf, rg, tn, tw, ps, mo, vb', rb', sb, us)) : ∀ (n i : Nat) (x : Int32) (vb rb : Nat → Int32), 4 < n + i → i ≤ 4 → x = zt_sum (fun j => mo (4 * h + j) * zt_T c t kx lf rg tn tw (fun i => ps (4 * h + i)) j) i → wY_drift_14 post (nI h) n x (nI i) (nI c) (nI t) q ky lf rg tn tw ps mo vb rb sb us := by
  intro n
  induction n with
  | zero => intro i x vb rb h h'; omega
  | succ n ih =>
    intro i x vb rb h1 h2 h3
    by_cases hx : 4 ≤ i
    · have e : i = 4 := by omega
      rw [e] at h3 ⊢
      rw [h3]
      exact br_t (nI_le (a := 4) (b := 4) (Nat.le_refl _) (by decide)) (hp vb rb)
    · have hi : i < 4 := by omega
      obtain ⟨a, d⟩ := zt_cell hh hi
      refine br_f (nI_ge (b := 4) (by omega) (by decide)) (zt_ywork hM hh hi (fun vb' rb' hv hr => ⟨a, zt_yste hM hr ?_⟩))
      rw [d]
      exact nm_e (nm_r (nI_1 i) (ih (i + 1) _ _ _ (by omega) (by omega) (by rw [h3]; rfl)))
end

/-! the leap -/
def zt_s1 (c t b : Nat) (q : Int32) (kx lf rg tn tw ps mo : Nat → Int32) : Nat → Int32 := zt_fo b (zt_gk b q (zt_T c t kx lf rg tn tw (fun i => ps (b + i)))) mo 4
def zt_s2 (c t b : Nat) (q : Int32) (kx lf rg tn tw ps mo : Nat → Int32) : Nat → Int32 := zt_fo b (zt_gm b (zt_s1 c t b q kx lf rg tn tw ps mo)) ps 4
def zt_s3 (c t b : Nat) (q : Int32) (kx lf rg tn tw ps mo : Nat → Int32) : Nat → Int32 := zt_s1 c t b q kx lf rg tn tw (zt_s2 c t b q kx lf rg tn tw ps mo) (zt_s1 c t b q kx lf rg tn tw ps mo)
def zt_lr (c t b : Nat) (q : Int32) (kx lf rg tn tw : Nat → Int32) : Nat → (Nat → Int32) → (Nat → Int32) → (Nat → Int32) × (Nat → Int32)
  | 0 => fun ps mo => (ps, mo)
  | d + 1 => fun ps mo => zt_lr c t b q kx lf rg tn tw d (zt_s2 c t b q kx lf rg tn tw ps mo) (zt_s3 c t b q kx lf rg tn tw ps mo)
section
variable {c t : Nat} {q : Int32} {kx ky lf rg tn tw cg us : Nat → Int32}
theorem zt_x48 {post : Int32 → SX → Prop} {J : Int32 → Int32 → Int32 → Int32 → Int32 → (Nat → Int32) → (Nat → Int32) → (Nat → Int32) → (Nat → Int32) → (Nat → Int32) → (Nat → Int32) → (Nat → Int32) → (Nat → Int32) → (Nat → Int32) → (Nat → Int32) → (Nat → Int32) → (Nat → Int32) → Prop} {b k w : Nat} {m : Int32} {ps mo va sh nd sl : Nat → Int32} (hM : zt_M c t kx ky lf rg tn) (hb : b + 4 ≤ 12) (hnd : zt_ND 0 c t kx lf rg tn nd)
    (hp : ∀ m' va' sh' nd' sl', zt_ND 0 c t kx lf rg tn nd' → (∀ i, i < 4 → sl' i = zt_T c t kx lf rg tn tw (fun i => zt_fo b (zt_gm b mo) ps 4 (b + i)) i) → J (nI (k + 1)) (nI c) (nI t) q m' kx lf rg tn tw (zt_fo b (zt_gm b mo) ps 4) (zt_s1 c t b q kx lf rg tn tw (zt_fo b (zt_gm b mo) ps 4) mo) va' sh' cg nd' sl') :
    ∀ (n i : Nat) (ps' : Nat → Int32), 4 < n + i → i ≤ 4 → ps' = zt_fo b (zt_gm b mo) ps i → wX_leap_48 post J (nI w) (nI b) (nI k) (nI c) (nI t) q m n (nI i) kx lf rg tn tw ps' mo va sh cg nd sl := by
  intro n
  induction n with
  | zero => intro i ps' h h'; omega
  | succ n ih =>
    intro i ps' h1 h2 h3
    by_cases hx : 4 ≤ i
    · have e : i = 4 := by omega
      rw [e] at h3 ⊢
      rw [h3]
      exact br_t (nI_le (a := 4) (b := 4) (Nat.le_refl _) (by decide)) (zt_xsweep rfl hM hb (Or.inr hnd) (fun m' va' sh' nd' sl' hnd' hsl => zt_xkick rfl hb hsl (nm_r (nI_1 k) (hp m' va' sh' nd' sl' hnd' hsl))))
    · have hi : i < 4 := by omega
      obtain ⟨a, d⟩ := zt_adN hi hb
      refine br_f (nI_ge (b := 4) (by omega) (by decide)) ⟨a, a, a, ?_⟩
      rw [d]
      exact nm_e (nm_r (nI_1 i) (ih (i + 1) _ (by omega) (by omega) (by rw [h3]; rfl)))
theorem zt_x34 {post : Int32 → SX → Prop} {b w : Nat} (hM : zt_M c t kx ky lf rg tn) (hb : b + 4 ≤ 12) (hw : w ≤ 40) : ∀ (d k n : Nat) (m : Int32) (ps mo va sh nd sl : Nat → Int32), k + d = w → d < n → zt_ND 0 c t kx lf rg tn nd → (∀ i, i < 4 → sl i = zt_T c t kx lf rg tn tw (fun i => ps (b + i)) i) →
    (∀ m' va' sh' nd' sl', zt_ND 0 c t kx lf rg tn nd' → post (zt_Z c t kx lf rg tn tw (fun i => (zt_lr c t b q kx lf rg tn tw d ps mo).1 (b + i)) &&& 255) (nI c, nI t, q, m', kx, lf, rg, tn, tw, (zt_lr c t b q kx lf rg tn tw d ps mo).1, (zt_lr c t b q kx lf rg tn tw d ps mo).2, va', sh', cg, nd', sl')) →
    wX_leap_34 post (nI w) (nI b) n (nI k) (nI c) (nI t) q m kx lf rg tn tw ps mo va sh cg nd sl := by
  intro d
  induction d with
  | zero =>
    intro k n m ps mo va sh nd sl h1 h2 hnd hsl hp
    obtain ⟨n, rfl⟩ : ∃ n', n = n' + 1 := ⟨n - 1, by omega⟩
    exact br_t (nI_le (by omega) (by omega)) (zt_xeval rfl hM hb (Or.inr hnd) (fun m' va' nd' hnd' _ => hp m' va' sh nd' sl hnd'))
  | succ d ih =>
    intro k n m ps mo va sh nd sl h1 h2 hnd hsl hp
    obtain ⟨n, rfl⟩ : ∃ n', n = n' + 1 := ⟨n - 1, by omega⟩
    exact br_f (nI_ge (by omega) (by omega)) (zt_xkick rfl hb hsl ⟨5, zt_x48 (ps := ps) (k := k) hM hb hnd (fun m' va' sh' nd' sl' hnd' hsl' => ih (k + 1) n m' _ _ va' sh' nd' sl' (by omega) (by omega) hnd' hsl' hp) 5 0 ps (by omega) (by omega) rfl⟩)
theorem zt_y38 {post : Int32 → SY → Prop} {J : Int32 → Int32 → Int32 → Int32 → (Nat → Int32) → (Nat → Int32) → (Nat → Int32) → (Nat → Int32) → (Nat → Int32) → (Nat → Int32) → (Nat → Int32) → (Nat → Int32) → (Nat → Int32) → (Nat → Int32) → (Nat → Int32) → Prop} {h k w : Nat} {ps mo vb rb sb : Nat → Int32} (hM : zt_M c t kx ky lf rg tn) (hh : h < 3)
    (hp : ∀ vb' rb' sb', J (nI (k + 1)) (nI c) (nI t) q ky lf rg tn tw (zt_fo (4 * h) (zt_gm (4 * h) mo) ps 4) (zt_s1 c t (4 * h) q kx lf rg tn tw (zt_fo (4 * h) (zt_gm (4 * h) mo) ps 4) mo) vb' rb' sb' us) :
    ∀ (n i : Nat) (ps' : Nat → Int32), 4 < n + i → i ≤ 4 → ps' = zt_fo (4 * h) (zt_gm (4 * h) mo) ps i → wY_leap_38 post J (nI h) (nI w) (nI k) (nI c) (nI t) q n (nI i) ky lf rg tn tw ps' mo vb rb sb us := by
  intro n
  induction n with
  | zero => intro i ps' h h'; omega
  | succ n ih =>
    intro i ps' h1 h2 h3
    by_cases hx : 4 ≤ i
    · have e : i = 4 := by omega
      rw [e] at h3 ⊢
      rw [h3]
      exact br_t (nI_le (a := 4) (b := 4) (Nat.le_refl _) (by decide)) (zt_ykick hM hh (fun vb' rb' sb' => nm_r (nI_1 k) (hp vb' rb' sb')))
    · have hi : i < 4 := by omega
      obtain ⟨a, d⟩ := zt_cell hh hi
      refine br_f (nI_ge (b := 4) (by omega) (by decide)) ⟨a, a, a, ?_⟩
      rw [d]
      exact nm_e (nm_r (nI_1 i) (ih (i + 1) _ (by omega) (by omega) (by rw [h3]; rfl)))
theorem zt_y25 {post : Int32 → SY → Prop} {h w : Nat} (hM : zt_M c t kx ky lf rg tn) (hh : h < 3) (hw : w ≤ 40) : ∀ (d k n : Nat) (ps mo vb rb sb : Nat → Int32), k + d = w → d < n →
    (∀ vb' rb' sb', post (zt_Z c t kx lf rg tn tw (fun i => (zt_lr c t (4 * h) q kx lf rg tn tw d ps mo).1 (4 * h + i)) &&& 255) (nI c, nI t, q, ky, lf, rg, tn, tw, (zt_lr c t (4 * h) q kx lf rg tn tw d ps mo).1, (zt_lr c t (4 * h) q kx lf rg tn tw d ps mo).2, vb', rb', sb', us)) →
    wY_leap_25 post (nI h) (nI w) n (nI k) (nI c) (nI t) q ky lf rg tn tw ps mo vb rb sb us := by
  intro d
  induction d with
  | zero =>
    intro k n ps mo vb rb sb h1 h2 hp
    obtain ⟨n, rfl⟩ : ∃ n', n = n' + 1 := ⟨n - 1, by omega⟩
    exact br_t (nI_le (by omega) (by omega)) (zt_ywork (i := 0) hM hh (by omega) (fun vb' rb' hv hr => zt_ytot hM hv (hp vb' rb' sb)))
  | succ d ih =>
    intro k n ps mo vb rb sb h1 h2 hp
    obtain ⟨n, rfl⟩ : ∃ n', n = n' + 1 := ⟨n - 1, by omega⟩
    exact br_f (nI_ge (by omega) (by omega)) (zt_ykick hM hh (fun vb' rb' sb' => ⟨5, zt_y38 (ps := ps) (k := k) hM hh (fun vb'' rb'' sb'' => ih (k + 1) n _ _ vb'' rb'' sb'' (by omega) (by omega) hp) 5 0 ps (by omega) (by omega) rfl⟩))
end
end
section
/-! the owed methods with loops -/
theorem i_vc_valueOf {k : Nat} {u : SX} {v : SY} (I : i_Rel k u v) (hk : k + 4 ≤ 2048) (v1 : Int32) (v2 : Int32) : wpX_valueOf (fun r u' => wpY_valueOf (fun r' v' => r' = r ∧ i_Rel (k + 4) u' v') v v1 v2) u v1 v2 := by
  refine zt_el (F := fun u v => wpX_valueOf (fun r u' => wpY_valueOf (fun r' v' => r' = r ∧ i_Rel (k + 4) u' v') v v1 v2) u v1 v2) ?_ I
  intro c t q m kx ky lf rg tn tw ps mo va sh cg nd sl vb rb sb us hM hn
  unfold wpX_valueOf wpY_valueOf
  dsimp only
  have hc := hM.1
  have ok := hM.2.2.1
  rcases zt_chain v1 with ⟨h, hh, rfl, hX, hY⟩ | ⟨hX, hY⟩
  · rcases zt_node (t := t) (q := q) (m := m) (kx := kx) (ky := ky) (lf := lf) (rg := rg) (tn := tn) (tw := tw) (ps := ps) (mo := mo) (va := va) (sh := sh) (cg := cg) (nd := nd) (sl := sl) (vb := vb) (rb := rb) (sb := sb) (us := us) hc v2 with ⟨w, hw, rfl, aX, aY⟩ | ⟨aX, aY⟩
    · refine hX _ (br_f (by decide) (aX _ (br_f (by decide) ⟨w + 2, zt_xv19 ok hc hh hw (fun va' => ?_) (w + 2) 0 va (by omega) (by omega) (fun j hj => by omega)⟩)))
      refine hY _ _ (br_t rfl (aY _ (br_t rfl (zt_ywork (i := 0) hM hh (by omega) (fun vb' rb' hv hr => ⟨vp_in_nI (by omega) (by decide), ?_, zt_in hM hn⟩)))))
      rw [nI_clamp (n := w) (by omega)]
      exact hv w hw
    · exact hX _ (br_f (by decide) (aX _ (br_t rfl (hY _ _ (br_t rfl (aY _ (br_f (by decide) ⟨rfl, zt_in hM hn⟩)))))))
  · exact hX _ (br_t rfl (hY _ _ (br_f (by decide) ⟨rfl, zt_in hM hn⟩)))
theorem i_vc_target {k : Nat} {u : SX} {v : SY} (I : i_Rel k u v) (hk : k + 4 ≤ 2048) (v1 : Int32) : wpX_target (fun r u' => wpY_target (fun r' v' => r' = r ∧ i_Rel (k + 4) u' v') v v1) u v1 := by
  refine zt_el (F := fun u v => wpX_target (fun r u' => wpY_target (fun r' v' => r' = r ∧ i_Rel (k + 4) u' v') v v1) u v1) ?_ I
  intro c t q m kx ky lf rg tn tw ps mo va sh cg nd sl vb rb sb us hM hn
  unfold wpX_target wpY_target
  dsimp only
  rcases zt_chain v1 with ⟨h, hh, rfl, hX, hY⟩ | ⟨hX, hY⟩
  · refine hX _ (br_f (by decide) (zt_xeval (zt_4 h) hM (by omega) hn (fun m' va' nd' hnd hv => ?_)))
    exact hY _ _ (br_t rfl (zt_ywork (i := 0) hM hh (by omega) (fun vb' rb' hv hr => zt_ytot hM hv ⟨rfl, zt_in hM (Or.inr hnd)⟩)))
  · exact hX _ (br_t rfl (hY _ _ (br_f (by decide) ⟨rfl, zt_in hM hn⟩)))
theorem i_vc_slope {k : Nat} {u : SX} {v : SY} (I : i_Rel k u v) (hk : k + 4 ≤ 2048) (v1 : Int32) (v2 : Int32) : wpX_slope (fun r u' => wpY_slope (fun r' v' => r' = r ∧ i_Rel (k + 4) u' v') v v1 v2) u v1 v2 := by
  refine zt_el (F := fun u v => wpX_slope (fun r u' => wpY_slope (fun r' v' => r' = r ∧ i_Rel (k + 4) u' v') v v1 v2) u v1 v2) ?_ I
  intro c t q m kx ky lf rg tn tw ps mo va sh cg nd sl vb rb sb us hM hn
  unfold wpX_slope wpY_slope
  dsimp only
  rcases zt_chain v1 with ⟨h, hh, rfl, hX, hY⟩ | ⟨hX, hY⟩
  · rcases zt_param v2 with ⟨i, hi, rfl, pX, pY⟩ | ⟨pX, pY⟩
    · refine hX _ (br_f (by decide) (pX _ (br_f (by decide) (zt_xsweep (zt_4 h) hM (by omega) hn (fun m' va' sh' nd' sl' hnd hs => ⟨vp_in_nI hi (by decide), ?_⟩)))))
      refine hY _ _ (br_t rfl (pY _ _ (br_t rfl (zt_ywork hM hh hi (fun vb' rb' hv hr => zt_yste hM hr ⟨?_, zt_in hM (Or.inr hnd)⟩)))))
      rw [nI_clamp (n := i) (by omega)]
      exact (hs i hi).symm
    · exact hX _ (br_f (by decide) (pX _ (br_t rfl (hY _ _ (br_t rfl (pY _ _ (br_f (by decide) ⟨rfl, zt_in hM hn⟩)))))))
  · exact hX _ (br_t rfl (hY _ _ (br_f (by decide) ⟨rfl, zt_in hM hn⟩)))
theorem i_vc_drift {k : Nat} {u : SX} {v : SY} (I : i_Rel k u v) (hk : k + 4 ≤ 2048) (v1 : Int32) : wpX_drift (fun r u' => wpY_drift (fun r' v' => r' = r ∧ i_Rel (k + 4) u' v') v v1) u v1 := by
  refine zt_el (F := fun u v => wpX_drift (fun r u' => wpY_drift (fun r' v' => r' = r ∧ i_Rel (k + 4) u' v') v v1) u v1) ?_ I
  intro c t q m kx ky lf rg tn tw ps mo va sh cg nd sl vb rb sb us hM hn
  unfold wpX_drift wpY_drift
  dsimp only
  rcases zt_chain v1 with ⟨h, hh, rfl, hX, hY⟩ | ⟨hX, hY⟩
  · have hb : 4 * h + 4 ≤ 12 := by omega
    refine hX _ (br_f (by decide) (nm_r (zt_4 h) (zt_xeval rfl hM hb hn (fun m' va' nd' hnd hv => ⟨c + 1, zt_x21 hM hb hnd hv (fun cg' => ?_) (c + 1) 0 cg (by omega) (Nat.zero_le _) (fun j hj => by omega)⟩))))
    refine hY _ _ (br_t rfl ⟨5, zt_y14 hM hh (fun vb' rb' => ⟨?_, zt_in hM (Or.inr hnd)⟩) 5 0 0 vb rb (by omega) (by omega) rfl⟩)
    have e := zt_lin_S (tw := tw) (P := fun i => ps (4 * h + i)) (Q := fun i => mo (4 * h + i)) hM.2.2.1 t hM.2.2.2.2
    rw [e]
    show 0 + mo (4 * h + 0) * zt_T c t kx lf rg tn tw (fun i => ps (4 * h + i)) 0 + mo (4 * h + 1) * zt_T c t kx lf rg tn tw (fun i => ps (4 * h + i)) 1 + mo (4 * h + 2) * zt_T c t kx lf rg tn tw (fun i => ps (4 * h + i)) 2 + mo (4 * h + 3) * zt_T c t kx lf rg tn tw (fun i => ps (4 * h + i)) 3 = mo (4 * h + 0) * zt_T c t kx lf rg tn tw (fun i => ps (4 * h + i)) 0 + mo (4 * h + 1) * zt_T c t kx lf rg tn tw (fun i => ps (4 * h + i)) 1 + mo (4 * h + 2) * zt_T c t kx lf rg tn tw (fun i => ps (4 * h + i)) 2 + mo (4 * h + 3) * zt_T c t kx lf rg tn tw (fun i => ps (4 * h + i)) 3
    rw [Int32.zero_add]
  · exact hX _ (br_t rfl (hY _ _ (br_f (by decide) ⟨rfl, zt_in hM hn⟩)))
/-- a cell that is set and set back -/
theorem zt_back {f : Nat → Int32} {a : Nat} {x : Int32} : upd (upd f a x) a (f a) = f := by
  funext j
  by_cases e : j = a
  · rw [e, pk_us]
  · rw [pk_un e, pk_un e]
theorem i_vc_targetAt {k : Nat} {u : SX} {v : SY} (I : i_Rel k u v) (hk : k + 4 ≤ 2048) (v1 : Int32) (v2 : Int32) (v3 : Int32) : wpX_targetAt (fun r u' => wpY_targetAt (fun r' v' => r' = r ∧ i_Rel (k + 4) u' v') v v1 v2 v3) u v1 v2 v3 := by
  refine zt_el (F := fun u v => wpX_targetAt (fun r u' => wpY_targetAt (fun r' v' => r' = r ∧ i_Rel (k + 4) u' v') v v1 v2 v3) u v1 v2 v3) ?_ I
  intro c t q m kx ky lf rg tn tw ps mo va sh cg nd sl vb rb sb us hM hn
  unfold wpX_targetAt wpY_targetAt
  dsimp only
  rcases zt_chain v1 with ⟨h, hh, rfl, hX, hY⟩ | ⟨hX, hY⟩
  · rcases zt_param v2 with ⟨i, hi, rfl, pX, pY⟩ | ⟨pX, pY⟩
    · have hb : 4 * h + 4 ≤ 12 := by omega
      have ic := (zt_cell hh hi).1
      refine hX _ (br_f (by decide) (pX _ (br_f (by decide) (nm_e ⟨ic, nm_e ⟨ic, nm_e (zt_xeval (zt_4 h) hM hb hn (fun m' va' nd' hnd hv => ⟨ic, nm_r zt_back ?_⟩))⟩⟩))))
      exact hY _ _ (br_t rfl (pY _ _ (br_t rfl ⟨ic, nm_e ⟨ic, nm_e (zt_ywork hM hh hi (fun vb' rb' hv hr => ⟨ic, nm_r zt_back (zt_ytot hM hv ⟨rfl, zt_in hM (Or.inr hnd)⟩)⟩))⟩⟩)))
    · exact hX _ (br_f (by decide) (pX _ (br_t rfl (hY _ _ (br_t rfl (pY _ _ (br_f (by decide) ⟨rfl, zt_in hM hn⟩)))))))
  · exact hX _ (br_t rfl (hY _ _ (br_f (by decide) ⟨rfl, zt_in hM hn⟩)))
theorem i_vc_leap {k : Nat} {u : SX} {v : SY} (I : i_Rel k u v) (hk : k + 4 ≤ 2048) (v1 : Int32) (v2 : Int32) : wpX_leap (fun r u' => wpY_leap (fun r' v' => r' = r ∧ i_Rel (k + 4) u' v') v v1 v2) u v1 v2 := by
  refine zt_el (F := fun u v => wpX_leap (fun r u' => wpY_leap (fun r' v' => r' = r ∧ i_Rel (k + 4) u' v') v v1 v2) u v1 v2) ?_ I
  intro c t q m kx ky lf rg tn tw ps mo va sh cg nd sl vb rb sb us hM hn
  unfold wpX_leap wpY_leap
  dsimp only
  rcases zt_chain v1 with ⟨h, hh, rfl, hX, hY⟩ | ⟨hX, hY⟩
  · have hb : 4 * h + 4 ≤ 12 := by omega
    by_cases h0 : v2 < 0
    · exact hX _ (br_f (by decide) (br_t h0 (hY _ _ (br_t rfl (br_t h0 ⟨rfl, zt_in hM hn⟩)))))
    · by_cases h2 : v2 ≤ 40
      · obtain ⟨w, hw, ew⟩ := nI_of2 (M := 40) (n := 40) (by decide) h0 h2
        subst ew
        refine hX _ (br_f (by decide) (br_f h0 (br_t h2 (nm_r (zt_4 h) (zt_xsweep rfl hM hb hn (fun m' va' sh' nd' sl' hnd hs => ⟨w + 1, zt_x34 hM hb hw w 0 (w + 1) m' ps mo va' sh' nd' sl' (by omega) (by omega) hnd hs (fun m'' va'' sh'' nd'' sl'' hnd'' => ?_)⟩))))))
        exact hY _ _ (br_t rfl (br_f h0 (br_t h2 ⟨w + 1, zt_y25 hM hh hw w 0 (w + 1) ps mo vb rb sb (by omega) (by omega) (fun vb' rb' sb' => ⟨rfl, zt_in hM (Or.inr hnd'')⟩)⟩)))
      · exact hX _ (br_f (by decide) (br_f h0 (br_f h2 (hY _ _ (br_t rfl (br_f h0 (br_f h2 ⟨rfl, zt_in hM hn⟩)))))))
  · exact hX _ (br_t rfl (hY _ _ (br_f (by decide) ⟨rfl, zt_in hM hn⟩)))
theorem i_vc_turn {k : Nat} {u : SX} {v : SY} (I : i_Rel k u v) (hk : k + 4 ≤ 2048) (v1 : Int32) : wpX_turn (fun r u' => wpY_turn (fun r' v' => r' = r ∧ i_Rel (k + 4) u' v') v v1) u v1 := by
  refine zt_el (F := fun u v => wpX_turn (fun r u' => wpY_turn (fun r' v' => r' = r ∧ i_Rel (k + 4) u' v') v v1) u v1) ?_ I
  intro c t q m kx ky lf rg tn tw ps mo va sh cg nd sl vb rb sb us hM hn
  unfold wpX_turn wpY_turn
  dsimp only
  rcases zt_chain v1 with ⟨h, hh, rfl, hX, hY⟩ | ⟨hX, hY⟩
  · refine hX _ (br_f (by decide) (nm_r (zt_4 h) ⟨5, zt_x13 hh ?_ 5 0 mo (by omega) (by omega) rfl⟩))
    exact hY _ _ (br_t rfl ⟨5, zt_y12 hh ⟨rfl, zt_in hM hn⟩ 5 0 mo (by omega) (by omega) rfl⟩)
  · exact hX _ (br_t rfl (hY _ _ (br_f (by decide) ⟨rfl, zt_in hM hn⟩)))
theorem i_vc_copy {k : Nat} {u : SX} {v : SY} (I : i_Rel k u v) (hk : k + 4 ≤ 2048) (v1 : Int32) (v2 : Int32) : wpX_copy (fun r u' => wpY_copy (fun r' v' => r' = r ∧ i_Rel (k + 4) u' v') v v1 v2) u v1 v2 := by
  refine zt_el (F := fun u v => wpX_copy (fun r u' => wpY_copy (fun r' v' => r' = r ∧ i_Rel (k + 4) u' v') v v1 v2) u v1 v2) ?_ I
  intro c t q m kx ky lf rg tn tw ps mo va sh cg nd sl vb rb sb us hM hn
  unfold wpX_copy wpY_copy
  dsimp only
  rcases zt_chain v1 with ⟨f, hf, rfl, hX, hY⟩ | ⟨hX, hY⟩
  · rcases zt_chain v2 with ⟨h, hh, rfl, pX, pY⟩ | ⟨pX, pY⟩
    · refine hX _ (br_f (by decide) (pX _ (br_f (by decide) ⟨5, zt_x18 hf hh ?_ 5 0 ps mo (by omega) (by omega) rfl rfl⟩)))
      exact hY _ _ (br_t rfl (pY _ _ (br_t rfl ⟨5, zt_y20 hf hh ⟨rfl, zt_in hM hn⟩ 5 0 ps mo (by omega) (by omega) rfl rfl⟩)))
    · exact hX _ (br_f (by decide) (pX _ (br_t rfl (hY _ _ (br_t rfl (pY _ _ (br_f (by decide) ⟨rfl, zt_in hM hn⟩)))))))
  · exact hX _ (br_t rfl (hY _ _ (br_f (by decide) ⟨rfl, zt_in hM hn⟩)))
theorem i_vc_live {k : Nat} {u : SX} {v : SY} (I : i_Rel k u v) (hk : k + 4 ≤ 2048) : wpX_live (fun r u' => wpY_live (fun r' v' => r' = r ∧ i_Rel (k + 4) u' v') v) u := by
  refine zt_el (F := fun u v => wpX_live (fun r u' => wpY_live (fun r' v' => r' = r ∧ i_Rel (k + 4) u' v') v) u) ?_ I
  intro c t q m kx ky lf rg tn tw ps mo va sh cg nd sl vb rb sb us hM hn
  unfold wpX_live wpY_live
  dsimp only
  refine zt_xmark hM hn (fun m' nd' hnd => ⟨c + 1, zt_xlive8 hM.1 ?_ (c + 1) 0 0 (by omega) (Nat.zero_le _) rfl⟩)
  exact ⟨25, zt_yl2 hM hnd (fun us' => ⟨rfl, zt_in hM (Or.inr hnd)⟩) 25 0 us (by omega) (by omega) (fun j hj => by omega)⟩
end
