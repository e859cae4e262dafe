section
/-- the member sets that the law comes through -/
def rr_sets : List Nat := [7, 15, 31, 63, 62, 60, 56]
def rr_mix (x : Int32) : Int32 :=
  (((((x * 40503) + 30011) ^^^ ((((x * 40503) + 30011).toUInt32 >>> ((7 : Int32).toUInt32 &&& Int32.toUInt32 31)).toInt32)) * 26699) ^^^ ((((((x * 40503) + 30011) ^^^ ((((x * 40503) + 30011).toUInt32 >>> ((7 : Int32).toUInt32 &&& Int32.toUInt32 31)).toInt32)) * 26699).toUInt32 >>> ((11 : Int32).toUInt32 &&& Int32.toUInt32 31)).toInt32)) &&& 4095
/-- a bit of a set, as the program asks for it -/
def rr_bit (w : Int32) (m : Nat) : Bool := !decide (((w >>> (nI m &&& 31)) &&& 1) = 0)
/-- the ring, its last place first: a place is entered behind all that are not greater -/
def rr_ins (p m : Int32) : List (Int32 × Int32) → List (Int32 × Int32)
  | [] => [(p, m)]
  | x :: L => if x.1 ≤ p then (p, m) :: x :: L else x :: rr_ins p m L
def rr_lay (M : Int32) : Nat → List (Int32 × Int32)
  | 0 => []
  | j + 1 => if rr_bit M (j / 4) = true then rr_ins (rr_mix (nI (j + 100))) (nI (j / 4)) (rr_lay M j) else rr_lay M j
def rr_Mt : List (Int32 × Int32) → (Nat → Int32) → (Nat → Int32) → Prop
  | [], _, _ => True
  | x :: L, a1, a2 => a1 L.length = x.1 ∧ a2 L.length = x.2 ∧ rr_Mt L a1 a2
def rr_gt : List (Int32 × Int32) → Nat → Int32 × Int32
  | [], _ => (0, 0)
  | x :: L, i => if i = L.length then x else rr_gt L i
def rr_bs (g : Nat → Int32) (p : Int32) : Nat → Nat → Nat → Nat
  | 0, lo, _ => lo
  | f + 1, lo, hi => if hi ≤ lo then lo else if p ≤ g ((lo + hi) / 2) then rr_bs g p f lo ((lo + hi) / 2) else rr_bs g p f ((lo + hi) / 2 + 1) hi
def rr_sk (o : Nat → Int32) (lo n : Nat) : Nat → Nat → Int32 → List Int32 → List Int32
  | 0, _, _, ks => ks
  | f + 1, i, st, ks => if 3 ≤ ks.length then ks else if ((st >>> (o ((lo + i) % n) &&& 31)) &&& 1) = 0 then rr_sk o lo n f (i + 1) (st ||| ((1 : Int32) <<< (o ((lo + i) % n) &&& 31))) (ks ++ [o ((lo + i) % n)]) else rr_sk o lo n f (i + 1) st ks
def rr_ring (M : Nat) : List (Int32 × Int32) :=
  if M = 7 then [(2813, 1), (2231, 0), (2103, 2), (1922, 2), (1904, 1), (1811, 0), (1725, 1), (1529, 0), (1450, 1), (1293, 2), (1199, 2), (673, 0)] else
  if M = 15 then [(2813, 1), (2522, 3), (2236, 3), (2231, 0), (2103, 2), (1922, 2), (1904, 1), (1811, 0), (1725, 1), (1601, 3), (1529, 0), (1450, 1), (1293, 2), (1199, 2), (1106, 3), (673, 0)] else
  if M = 31 then [(3660, 4), (2813, 1), (2522, 3), (2451, 4), (2236, 3), (2231, 0), (2103, 2), (1968, 4), (1922, 2), (1904, 1), (1811, 0), (1725, 1), (1601, 3), (1529, 0), (1450, 1), (1293, 2), (1199, 2), (1106, 3), (1092, 4), (673, 0)] else
  if M = 63 then [(4086, 5), (3660, 4), (3655, 5), (3303, 5), (3173, 5), (2813, 1), (2522, 3), (2451, 4), (2236, 3), (2231, 0), (2103, 2), (1968, 4), (1922, 2), (1904, 1), (1811, 0), (1725, 1), (1601, 3), (1529, 0), (1450, 1), (1293, 2), (1199, 2), (1106, 3), (1092, 4), (673, 0)] else
  if M = 62 then [(4086, 5), (3660, 4), (3655, 5), (3303, 5), (3173, 5), (2813, 1), (2522, 3), (2451, 4), (2236, 3), (2103, 2), (1968, 4), (1922, 2), (1904, 1), (1725, 1), (1601, 3), (1450, 1), (1293, 2), (1199, 2), (1106, 3), (1092, 4)] else
  if M = 60 then [(4086, 5), (3660, 4), (3655, 5), (3303, 5), (3173, 5), (2522, 3), (2451, 4), (2236, 3), (2103, 2), (1968, 4), (1922, 2), (1601, 3), (1293, 2), (1199, 2), (1106, 3), (1092, 4)] else
  if M = 56 then [(4086, 5), (3660, 4), (3655, 5), (3303, 5), (3173, 5), (2522, 3), (2451, 4), (2236, 3), (1968, 4), (1601, 3), (1106, 3), (1092, 4)] else
  []
def rr_tab (M : Nat) : List (List Nat) :=
  if M = 7 then [[2, 1, 0], [1, 0, 2], [2, 1, 0], [0, 2, 1], [1, 0, 2], [1, 0, 2], [1, 0, 2], [0, 2, 1], [2, 0, 1], [2, 1, 0], [0, 2, 1], [0, 2, 1], [0, 2, 1], [2, 1, 0], [0, 1, 2], [0, 2, 1]] else
  if M = 15 then [[3, 2, 1], [3, 1, 0], [2, 1, 0], [0, 3, 2], [3, 1, 0], [1, 0, 2], [3, 1, 0], [0, 3, 2], [2, 0, 3], [3, 2, 1], [0, 3, 2], [0, 3, 2], [0, 3, 2], [3, 2, 1], [0, 3, 1], [0, 3, 2]] else
  if M = 31 then [[4, 3, 2], [4, 3, 1], [2, 1, 0], [4, 0, 3], [4, 3, 1], [1, 0, 2], [3, 1, 4], [4, 0, 3], [2, 0, 3], [4, 3, 2], [4, 0, 3], [4, 0, 3], [4, 0, 3], [4, 3, 2], [0, 3, 4], [4, 0, 3]] else
  if M = 63 then [[4, 3, 2], [4, 3, 1], [2, 1, 0], [5, 4, 0], [4, 3, 1], [1, 0, 2], [3, 1, 5], [5, 4, 0], [2, 0, 3], [4, 3, 2], [5, 4, 0], [5, 4, 0], [5, 4, 0], [4, 3, 2], [0, 3, 4], [5, 4, 0]] else
  if M = 62 then [[4, 3, 2], [4, 3, 1], [2, 1, 3], [5, 4, 3], [4, 3, 1], [1, 2, 4], [3, 1, 5], [5, 4, 3], [2, 3, 4], [4, 3, 2], [5, 4, 3], [5, 4, 3], [5, 4, 3], [4, 3, 2], [3, 4, 1], [5, 4, 3]] else
  if M = 60 then [[4, 3, 2], [4, 3, 5], [2, 3, 4], [5, 4, 3], [4, 3, 5], [2, 4, 3], [3, 5, 4], [5, 4, 3], [2, 3, 4], [4, 3, 2], [5, 4, 3], [5, 4, 3], [5, 4, 3], [4, 3, 2], [3, 4, 5], [5, 4, 3]] else
  if M = 56 then [[4, 3, 5], [4, 3, 5], [3, 4, 5], [5, 4, 3], [4, 3, 5], [4, 3, 5], [3, 5, 4], [5, 4, 3], [3, 4, 5], [4, 3, 5], [5, 4, 3], [5, 4, 3], [5, 4, 3], [4, 3, 5], [3, 4, 5], [5, 4, 3]] else
  []
def rr_kt (M k j : Nat) : Nat := ((rr_tab M).getD k []).getD j 0
def rr_fk (M k : Nat) : List Int32 := rr_sk (fun i => (rr_gt (rr_ring M) i).2) (rr_bs (fun i => (rr_gt (rr_ring M) i).1) (rr_mix (nI k)) 6 0 (rr_ring M).length) (rr_ring M).length (rr_ring M).length 0 0 []
def rr_pc (q : Nat) : Nat := (if q.testBit 0 = true then 1 else 0) + (if q.testBit 1 = true then 1 else 0) + (if q.testBit 2 = true then 1 else 0)
def rr_ones (x : Int32) : Int32 := 0 + ((x >>> ((0 : Int32) &&& 31)) &&& 1) + ((x >>> ((1 : Int32) &&& 31)) &&& 1) + ((x >>> ((2 : Int32) &&& 31)) &&& 1) + ((x >>> ((3 : Int32) &&& 31)) &&& 1) + ((x >>> ((4 : Int32) &&& 31)) &&& 1) + ((x >>> ((5 : Int32) &&& 31)) &&& 1)
/-- enough of the keepers work: when all that work have answered, e have -/
def rr_en (w : Int32) (M k e : Nat) : Prop := ∀ q, q < 8 → (∀ j, j < 3 → rr_bit w (rr_kt M k j) = true → q.testBit j = true) → e ≤ rr_pc q
theorem rr_F1 : ∀ M, M ∈ rr_sets → rr_lay (nI M) 24 = rr_ring M := by decide +kernel
theorem rr_F2 : ∀ M, M ∈ rr_sets → ∀ k, k < 16 → rr_fk M k = [nI (rr_kt M k 0), nI (rr_kt M k 1), nI (rr_kt M k 2)] := by decide +kernel
theorem rr_F3 : ∀ M, M ∈ rr_sets → ∀ k, k < 16 → ∀ j, j < 3 → rr_kt M k j < 6 ∧ rr_bit (nI M) (rr_kt M k j) = true := by decide +kernel
theorem rr_F4 : ∀ M, M ∈ rr_sets → ∀ k, k < 16 → ∀ i, i < 3 → ∀ j, j < 3 → rr_kt M k i = rr_kt M k j → i = j := by decide +kernel
theorem rr_F5 : ∀ M, M ∈ rr_sets → 0 < (rr_ring M).length ∧ (rr_ring M).length ≤ 24 := by decide +kernel
theorem rr_F5b : ∀ M, M ∈ rr_sets → ∀ i, i < 24 → ((rr_gt (rr_ring M) i).2).toInt8.toInt32 = (rr_gt (rr_ring M) i).2 := by decide +kernel
theorem rr_F6 : ∀ M, M ∈ rr_sets → ∀ k, k < 16 → rr_en (nI M) M k 3 := by
  unfold rr_en
  decide +kernel
theorem rr_F7 : ∀ m, m < 6 → ∀ k, k < 16 → rr_en ((63 : Int32) &&& (((1 : Int32) <<< (nI m &&& 31)) ^^^ (-1))) 63 k 2 := by
  unfold rr_en
  decide +kernel
theorem rr_P1a : ∀ q, q < 8 → ∀ i, i < 3 → ∀ j, j < 3 → i = j ∨ rr_pc q < 2 ∨ q.testBit i = true ∨ q.testBit j = true := by decide +kernel
theorem rr_P1 (q : Nat) (hq : q < 8) (hp : 2 ≤ rr_pc q) (i : Nat) (hi : i < 3) (j : Nat) (hj : j < 3) (hij : i ≠ j) : q.testBit i = true ∨ q.testBit j = true := by
  rcases rr_P1a q hq i hi j hj with z | z | z
  · exact absurd z hij
  · omega
  · exact z
theorem rr_P2 : ∀ q, q < 8 → 3 ≤ rr_pc q → ∀ i, i < 3 → q.testBit i = true := by decide +kernel
theorem rr_P3 : ∀ q, q < 8 → rr_ones (nI q) = nI (rr_pc q) ∧ rr_pc q < 4 := by decide +kernel
theorem rr_P4 : ∀ q, q < 8 → 2 ≤ rr_pc q → ∃ i, i < 3 ∧ ∃ j, j < 3 ∧ i ≠ j ∧ q.testBit i = true ∧ q.testBit j = true := by decide +kernel
theorem rr_Q1 : ∀ q, q < 8 → ∀ i, i < 3 → (((nI q >>> (nI i &&& 31)) &&& 1) = 0 ↔ q.testBit i = false) := by decide +kernel
theorem rr_Q2 : ∀ q, q < 8 → ∀ i, i < 3 → nI q ||| ((1 : Int32) <<< (nI i &&& 31)) = nI (q ||| 2 ^ i) ∧ q ||| 2 ^ i < 8 := by decide +kernel
theorem rr_Q2b : ∀ q, q < 8 → ∀ i, i < 3 → ∀ j, j < 3 → (q ||| 2 ^ i).testBit j = (q.testBit j || decide (j = i)) := by decide +kernel
theorem rr_Q3 : ∀ q, q < 8 → nI q ||| 0 = nI q := by decide +kernel
theorem rr_byte : ∀ m, m < 6 → (nI m).toInt8.toInt32 = nI m := by decide +kernel
theorem rr_Mt_gt {L : List (Int32 × Int32)} {a1 a2 : Nat → Int32} (h : rr_Mt L a1 a2) : ∀ i, i < L.length → a1 i = (rr_gt L i).1 ∧ a2 i = (rr_gt L i).2 := by
  induction L with
  | nil => intro i hi; exact absurd hi (by simp)
  | cons x L ih =>
    intro i hi
    obtain ⟨h1, h2, h3⟩ := h
    unfold rr_gt
    by_cases e : i = L.length
    · rw [if_pos e, e]; exact ⟨h1, h2⟩
    · rw [if_neg e]
      simp only [List.length_cons] at hi
      exact ih h3 i (by omega)
theorem rr_ins_len (p m : Int32) (L : List (Int32 × Int32)) : (rr_ins p m L).length = L.length + 1 := by
  induction L with
  | nil => rfl
  | cons x L ih =>
    unfold rr_ins
    by_cases e : x.1 ≤ p
    · rw [if_pos e]; rfl
    · rw [if_neg e, List.length_cons, ih]; rfl
theorem rr_ins_byte (p m : Int32) (hm : m.toInt8.toInt32 = m) (L : List (Int32 × Int32)) (h : ∀ x, x ∈ L → x.2.toInt8.toInt32 = x.2) : ∀ x, x ∈ rr_ins p m L → x.2.toInt8.toInt32 = x.2 := by
  induction L with
  | nil =>
    intro x hx
    unfold rr_ins at hx
    rw [List.mem_singleton] at hx
    rw [hx]; exact hm
  | cons y L ih =>
    intro x hx
    unfold rr_ins at hx
    by_cases e : y.1 ≤ p
    · rw [if_pos e] at hx
      rcases List.mem_cons.mp hx with hx | hx
      · rw [hx]; exact hm
      · exact h x hx
    · rw [if_neg e] at hx
      rcases List.mem_cons.mp hx with hx | hx
      · rw [hx]; exact h y List.mem_cons_self
      · exact ih (fun z hz => h z (List.mem_cons_of_mem _ hz)) x hx
theorem rr_lay_len (M : Int32) : ∀ j, (rr_lay M j).length ≤ j := by
  intro j
  induction j with
  | zero => exact Nat.le_refl 0
  | succ j ih =>
    unfold rr_lay
    by_cases e : rr_bit M (j / 4) = true
    · rw [if_pos e, rr_ins_len]; omega
    · rw [if_neg e]; omega
theorem rr_lay_byte (M : Int32) : ∀ j, j ≤ 24 → ∀ x, x ∈ rr_lay M j → x.2.toInt8.toInt32 = x.2 := by
  intro j
  induction j with
  | zero => intro _ x hx; exact absurd hx (by unfold rr_lay; simp)
  | succ j ih =>
    intro hj x hx
    unfold rr_lay at hx
    by_cases e : rr_bit M (j / 4) = true
    · rw [if_pos e] at hx
      exact rr_ins_byte _ _ (rr_byte _ (by omega)) _ (ih (by omega)) x hx
    · rw [if_neg e] at hx
      exact ih (by omega) x hx
theorem rr_Mt_up {L : List (Int32 × Int32)} {a1 a2 b1 b2 : Nat → Int32} (h : rr_Mt L a1 a2) (h1 : ∀ i, i < L.length → b1 i = a1 i) (h2 : ∀ i, i < L.length → b2 i = a2 i) : rr_Mt L b1 b2 := by
  induction L with
  | nil => exact trivial
  | cons x L ih =>
    obtain ⟨e1, e2, e3⟩ := h
    simp only [List.length_cons] at h1 h2
    exact ⟨(h1 _ (by omega)).trans e1, (h2 _ (by omega)).trans e2, ih e3 (fun i hi => h1 i (by omega)) (fun i hi => h2 i (by omega))⟩
end
section
/-- what may lie in a cell of a key whose newest is t: nothing newer, and the newest itself if its stamp is as new -/
def rr_o (t : Int32 × Int32 × Int32) (s v b : Int32) : Prop := 0 ≤ s ∧ s ≤ t.1 ∧ (s = t.1 → 0 < s → v = t.2.1 ∧ b = t.2.2) ∧ (b = 0 ∨ b = 1)
/-- all cells and hints, and who is known to have the newest -/
def rr_C (T : Nat → Int32 × Int32 × Int32) (H : Nat → Nat → Prop) (a3 a4 a5 a6 a7 a8 : Nat → Int32) : Prop :=
  (∀ m, m < 6 → ∀ k, k < 16 → rr_o (T k) (a3 (m * 16 + k)) (a4 (m * 16 + k)) (a5 (m * 16 + k))) ∧
  (∀ h, h < 6 → ∀ m, m < 6 → ∀ k, k < 16 → rr_o (T k) (a6 ((h * 6 + m) * 16 + k)) (a7 ((h * 6 + m) * 16 + k)) (a8 ((h * 6 + m) * 16 + k))) ∧
  (∀ m, m < 6 → ∀ k, k < 16 → H m k → a3 (m * 16 + k) = (T k).1)
theorem rr_o_T {t : Int32 × Int32 × Int32} {s v b : Int32} (h : rr_o t s v b) : 0 ≤ t.1 := Int32.le_trans h.1 h.2.1
theorem rr_o_0 {t : Int32 × Int32 × Int32} (h : 0 ≤ t.1) : rr_o t 0 0 0 := ⟨Int32.le_refl 0, h, fun _ z => absurd z Int32.lt_irrefl, Or.inl rfl⟩
theorem rr_o_s0 {t : Int32 × Int32 × Int32} {s v b : Int32} (h : rr_o t s v b) : rr_o t 0 v b := ⟨Int32.le_refl 0, rr_o_T h, fun _ z => absurd z Int32.lt_irrefl, h.2.2.2⟩
theorem rr_bool {b : Int32} (h : b = 0 ∨ b = 1) : vp_nar .boolean b = b := by
  rcases h with h | h
  · rw [h]; rfl
  · rw [h]; rfl
theorem rr_narrow {b : Int32} (h : b = 0 ∨ b = 1) : narrow .boolean (.int b) = .int b := by
  rcases h with h | h
  · rw [h]; rfl
  · rw [h]; rfl
theorem rr_fits {b : Int32} (h : b = 0 ∨ b = 1) : fits .boolean (.int b) = true := by
  rcases h with h | h
  · rw [h]; rfl
  · rw [h]; rfl
theorem rr_C_sub {T : Nat → Int32 × Int32 × Int32} {H H' : Nat → Nat → Prop} {a3 a4 a5 a6 a7 a8 : Nat → Int32} (h : rr_C T H a3 a4 a5 a6 a7 a8)
    (hs : ∀ m, m < 6 → ∀ k, k < 16 → H' m k → H m k ∨ a3 (m * 16 + k) = (T k).1) : rr_C T H' a3 a4 a5 a6 a7 a8 := by
  refine ⟨h.1, h.2.1, fun m hm k hk z => ?_⟩
  rcases hs m hm k hk z with y | y
  · exact h.2.2 m hm k hk y
  · exact y
theorem rr_C_store {T : Nat → Int32 × Int32 × Int32} {H : Nat → Nat → Prop} {a3 a4 a5 a6 a7 a8 : Nat → Int32} (h : rr_C T H a3 a4 a5 a6 a7 a8) {m k : Nat} (hm : m < 6) (hk : k < 16) {s v b : Int32}
    (ho : rr_o (T k) s v b) (hn : ¬ s ≤ a3 (m * 16 + k)) : rr_C T H (upd a3 (m * 16 + k) s) (upd a4 (m * 16 + k) v) (upd a5 (m * 16 + k) b) a6 a7 a8 := by
  refine ⟨fun m' hm' k' hk' => ?_, h.2.1, fun m' hm' k' hk' z => ?_⟩
  · by_cases e : m' * 16 + k' = m * 16 + k
    · have ek : k' = k := by omega
      rw [e, pk_us, pk_us, pk_us, ek]
      exact ho
    · rw [pk_un e, pk_un e, pk_un e]
      exact h.1 m' hm' k' hk'
  · by_cases e : m' * 16 + k' = m * 16 + k
    · have ek : k' = k := by omega
      have em : m' = m := by omega
      subst ek em
      have y := h.2.2 m' hm' k' hk' z
      exact absurd (by rw [y]; exact ho.2.1) hn
    · rw [pk_un e]
      exact h.2.2 m' hm' k' hk' z
theorem rr_C_hint {T : Nat → Int32 × Int32 × Int32} {H : Nat → Nat → Prop} {a3 a4 a5 a6 a7 a8 : Nat → Int32} (h : rr_C T H a3 a4 a5 a6 a7 a8) {c m k : Nat} (hm : m < 6) (hk : k < 16) {s v b : Int32}
    (ho : rr_o (T k) s v b) : rr_C T H a3 a4 a5 (upd a6 ((c * 6 + m) * 16 + k) s) (upd a7 ((c * 6 + m) * 16 + k) v) (upd a8 ((c * 6 + m) * 16 + k) b) := by
  refine ⟨h.1, fun c' hc' m' hm' k' hk' => ?_, h.2.2⟩
  by_cases e : (c' * 6 + m') * 16 + k' = (c * 6 + m) * 16 + k
  · have ek : k' = k := by omega
    rw [e, pk_us, pk_us, pk_us, ek]
    exact ho
  · rw [pk_un e, pk_un e, pk_un e]
    exact h.2.1 c' hc' m' hm' k' hk'
theorem rr_C_hz {T : Nat → Int32 × Int32 × Int32} {H : Nat → Nat → Prop} {a3 a4 a5 a6 a7 a8 : Nat → Int32} (h : rr_C T H a3 a4 a5 a6 a7 a8) (j : Nat) : rr_C T H a3 a4 a5 (upd a6 j 0) a7 a8 := by
  refine ⟨h.1, fun c' hc' m' hm' k' hk' => ?_, h.2.2⟩
  have y := h.2.1 c' hc' m' hm' k' hk'
  by_cases e : (c' * 6 + m') * 16 + k' = j
  · rw [e, pk_us]
    rw [e] at y
    exact rr_o_s0 y
  · rw [pk_un e]
    exact y
theorem rr_C_erase {T : Nat → Int32 × Int32 × Int32} {H : Nat → Nat → Prop} {a3 a4 a5 a6 a7 a8 : Nat → Int32} (h : rr_C T H a3 a4 a5 a6 a7 a8) {m k : Nat} (hk : k < 16)
    (hn : ¬ H m k) : rr_C T H (upd a3 (m * 16 + k) 0) (upd a4 (m * 16 + k) 0) (upd a5 (m * 16 + k) 0) a6 a7 a8 := by
  refine ⟨fun m' hm' k' hk' => ?_, h.2.1, fun m' hm' k' hk' z => ?_⟩
  · have y := h.1 m' hm' k' hk'
    by_cases e : m' * 16 + k' = m * 16 + k
    · rw [e, pk_us, pk_us, pk_us]
      exact rr_o_0 (rr_o_T y)
    · rw [pk_un e, pk_un e, pk_un e]
      exact y
  · by_cases e : m' * 16 + k' = m * 16 + k
    · have ek : k' = k := by omega
      have em : m' = m := by omega
      subst ek em
      exact absurd z hn
    · rw [pk_un e]
      exact h.2.2 m' hm' k' hk' z
/-- a new newest of the key k -/
theorem rr_C_new {T T' : Nat → Int32 × Int32 × Int32} {H : Nat → Nat → Prop} {a3 a4 a5 a6 a7 a8 : Nat → Int32} (h : rr_C T H a3 a4 a5 a6 a7 a8) {k : Nat}
    (h1 : (T k).1 < (T' k).1) (h2 : ∀ j, j ≠ k → T' j = T j) : rr_C T' (fun m j => j ≠ k ∧ H m j) a3 a4 a5 a6 a7 a8 := by
  have A : ∀ j s v b, rr_o (T j) s v b → rr_o (T' j) s v b := by
    intro j s v b o
    by_cases e : j = k
    · subst e
      have y : s < (T' j).1 := Int32.lt_of_le_of_lt o.2.1 h1
      refine ⟨o.1, Int32.le_of_lt y, fun z => ?_, o.2.2.2⟩
      rw [z] at y
      exact absurd y Int32.lt_irrefl
    · rw [h2 j e]; exact o
  refine ⟨fun m hm j hj => A _ _ _ _ (h.1 m hm j hj), fun c hc m hm j hj => A _ _ _ _ (h.2.1 c hc m hm j hj), fun m hm j hj z => ?_⟩
  rw [h2 j z.1]
  exact h.2.2 m hm j hj z.2
/-- any two of the three keepers: one of them has the newest -/
def rr_two (M k : Nat) (H : Nat → Nat → Prop) : Prop := ∀ i, i < 3 → ∀ j, j < 3 → i ≠ j → H (rr_kt M k i) k ∨ H (rr_kt M k j) k
/-- a machine keeps a key -/
def rr_kp (M m k : Nat) : Prop := ∃ j, j < 3 ∧ rr_kt M k j = m
end
section
/-- the members and the ring -/
def rr_G (M : Nat) (w : Int32) (u : St2) : Prop := u.1 = nI M ∧ u.2.1 = w ∧ u.2.2.1 = nI (rr_ring M).length ∧ rr_Mt (rr_ring M) u.2.2.2.2.2.2.2.2.2.1 u.2.2.2.2.2.2.2.2.2.2.1
/-- messages and cells -/
def rr_B (T : Nat → Int32 × Int32 × Int32) (H : Nat → Nat → Prop) (u : St2) : Prop := (∃ l, l ≤ 30 ∧ u.2.2.2.2.2.2.2.2.1 = nI l) ∧ rr_C T H u.2.2.2.2.2.2.2.2.2.2.2.1 u.2.2.2.2.2.2.2.2.2.2.2.2.1 u.2.2.2.2.2.2.2.2.2.2.2.2.2.1 u.2.2.2.2.2.2.2.2.2.2.2.2.2.2.1 u.2.2.2.2.2.2.2.2.2.2.2.2.2.2.2.1 u.2.2.2.2.2.2.2.2.2.2.2.2.2.2.2.2.1
theorem rr_bit_f {w : Int32} {m : Nat} (h : ((w >>> (nI m &&& 31)) &&& 1) = 0) : rr_bit w m = false := by
  unfold rr_bit
  rw [decide_eq_true h]
  rfl
theorem rr_bit_t {w : Int32} {m : Nat} (h : ¬ ((w >>> (nI m &&& 31)) &&& 1) = 0) : rr_bit w m = true := by
  unfold rr_bit
  rw [decide_eq_false h]
  rfl
theorem rr_isMachine {post : Int32 → Prop} {m : Nat} (hm : m < 6) (h : post 1) : wpX_isMachine post () (nI m) :=
  br_f (nI_pos (by omega)) (br_f (nI_ge (b := 6) hm (by decide)) h)
theorem rr_isMember {post : Int32 → Prop} {u : St2} {m : Nat} (hm : m < 6) (h1 : rr_bit u.1 m = true → post 1) (h0 : rr_bit u.1 m = false → post 0) : wpX_isMember post u (nI m) := by
  obtain ⟨u_ms, u_ws, u_rs, u_an, u_ns, u_nv, u_nt, u_mg, u_ll, u_a1, u_a2, u_a3, u_a4, u_a5, u_a6, u_a7, u_a8, u_a9, u_a10, u_a11, u_a12⟩ := u
  unfold wpX_isMember
  refine rr_isMachine hm (br_f (by decide) ?_)
  exact br_c (fun z => h0 (rr_bit_f z)) (fun z => h1 (rr_bit_t z))
theorem rr_isWorking {post : Int32 → Prop} {u : St2} {m : Nat} (hm : m < 6) (h1 : rr_bit u.2.1 m = true → post 1) (h0 : rr_bit u.2.1 m = false → post 0) : wpX_isWorking post u (nI m) := by
  obtain ⟨u_ms, u_ws, u_rs, u_an, u_ns, u_nv, u_nt, u_mg, u_ll, u_a1, u_a2, u_a3, u_a4, u_a5, u_a6, u_a7, u_a8, u_a9, u_a10, u_a11, u_a12⟩ := u
  unfold wpX_isWorking
  refine rr_isMachine hm (br_f (by decide) ?_)
  exact br_c (fun z => h0 (rr_bit_f z)) (fun z => h1 (rr_bit_t z))
theorem rr_isKey {post : Int32 → Prop} {k : Nat} (hk : k < 16) (h : post 1) : wpX_isKey post () (nI k) :=
  br_f (nI_pos (by omega)) (br_f (nI_ge (b := 16) hk (by decide)) h)
theorem rr_isNumber {post : Int32 → Prop} {v : Int32} (h1 : ¬ v < (-9999)) (h2 : ¬ 9999 < v) (h : post 1) : wpX_isNumber post () v :=
  br_f h1 (br_f h2 h)
theorem rr_mixed {post : Int32 → Prop} {x : Int32} (h : post (rr_mix x)) : wpX_mixed post () x :=
  nm_e (nm_e (nm_e h))
theorem rr_onesW {post : Int32 → Prop} {x : Int32} (h : post (rr_ones x)) : wpX_ones post () x :=
  ⟨7, br_f (by decide) (nm_e (nm_r (e' := 1) (by decide) (br_f (by decide) (nm_e (nm_r (e' := 2) (by decide) (br_f (by decide) (nm_e (nm_r (e' := 3) (by decide) (br_f (by decide) (nm_e (nm_r (e' := 4) (by decide) (br_f (by decide) (nm_e (nm_r (e' := 5) (by decide) (br_f (by decide) (nm_e (nm_r (e' := 6) (by decide) (br_t (by decide) h))))))))))))))))))⟩
theorem rr_ix {m k : Nat} : nI m * 16 + nI k = nI (m * 16 + k) := by
  rw [show (16 : Int32) = nI 16 from rfl, pk_mul, nI_add]
theorem rr_ixh {c m k : Nat} : (nI c * 6 + nI m) * 16 + nI k = nI ((c * 6 + m) * 16 + k) := by
  rw [show (16 : Int32) = nI 16 from rfl, show (6 : Int32) = nI 6 from rfl, pk_mul, nI_add, pk_mul, nI_add]
/-- a message: lost only if one more of those to be lost is used up -/
theorem rr_ct {post : Int32 → St2 → Prop} {u : St2} {c m : Int32} {l : Nat} (hl : u.2.2.2.2.2.2.2.2.1 = nI l) (hb : l ≤ 30)
    (h1 : ∀ g l', l' ≤ l → post 1 (u.1, u.2.1, u.2.2.1, u.2.2.2.1, u.2.2.2.2.1, u.2.2.2.2.2.1, u.2.2.2.2.2.2.1, g, nI l', u.2.2.2.2.2.2.2.2.2.1, u.2.2.2.2.2.2.2.2.2.2.1, u.2.2.2.2.2.2.2.2.2.2.2.1, u.2.2.2.2.2.2.2.2.2.2.2.2.1, u.2.2.2.2.2.2.2.2.2.2.2.2.2.1, u.2.2.2.2.2.2.2.2.2.2.2.2.2.2.1, u.2.2.2.2.2.2.2.2.2.2.2.2.2.2.2.1, u.2.2.2.2.2.2.2.2.2.2.2.2.2.2.2.2.1, u.2.2.2.2.2.2.2.2.2.2.2.2.2.2.2.2.2.1, u.2.2.2.2.2.2.2.2.2.2.2.2.2.2.2.2.2.2.1, u.2.2.2.2.2.2.2.2.2.2.2.2.2.2.2.2.2.2.2.1, u.2.2.2.2.2.2.2.2.2.2.2.2.2.2.2.2.2.2.2.2)) (h0 : ∀ g l', l' < l → post 0 (u.1, u.2.1, u.2.2.1, u.2.2.2.1, u.2.2.2.2.1, u.2.2.2.2.2.1, u.2.2.2.2.2.2.1, g, nI l', u.2.2.2.2.2.2.2.2.2.1, u.2.2.2.2.2.2.2.2.2.2.1, u.2.2.2.2.2.2.2.2.2.2.2.1, u.2.2.2.2.2.2.2.2.2.2.2.2.1, u.2.2.2.2.2.2.2.2.2.2.2.2.2.1, u.2.2.2.2.2.2.2.2.2.2.2.2.2.2.1, u.2.2.2.2.2.2.2.2.2.2.2.2.2.2.2.1, u.2.2.2.2.2.2.2.2.2.2.2.2.2.2.2.2.1, u.2.2.2.2.2.2.2.2.2.2.2.2.2.2.2.2.2.1, u.2.2.2.2.2.2.2.2.2.2.2.2.2.2.2.2.2.2.1, u.2.2.2.2.2.2.2.2.2.2.2.2.2.2.2.2.2.2.2.1, u.2.2.2.2.2.2.2.2.2.2.2.2.2.2.2.2.2.2.2.2)) : wpX_comesThrough post u c m := by
  obtain ⟨u_ms, u_ws, u_rs, u_an, u_ns, u_nv, u_nt, u_mg, u_ll, u_a1, u_a2, u_a3, u_a4, u_a5, u_a6, u_a7, u_a8, u_a9, u_a10, u_a11, u_a12⟩ := u
  have hl' : u_ll = nI l := hl
  subst hl'
  refine br_c (fun _ => h1 u_mg l (Nat.le_refl l)) (fun _ => nm_e (br_c (fun z => h1 _ l (Nat.le_refl l)) (fun z => ?_)))
  have hp : 0 < l := by
    rcases Nat.eq_zero_or_pos l with e | e
    · exact absurd (by rw [e]; exact nI_0) z
    · exact e
  refine nm_r (e' := nI (l - 1)) ?_ ⟨by decide, br_c (fun _ => h1 _ (l - 1) (by omega)) (fun _ => h0 _ (l - 1) (by omega))⟩
  obtain ⟨l2, rfl⟩ : ∃ l2, l = l2 + 1 := ⟨l - 1, by omega⟩
  rw [Nat.add_sub_cancel]
  exact nI_pred l2
theorem rr_startWork {post : St2 → Prop} {u : St2} (h : post (u.1, u.2.1, u.2.2.1, 0, 0, 0, 0, u.2.2.2.2.2.2.2.1, u.2.2.2.2.2.2.2.2.1, u.2.2.2.2.2.2.2.2.2.1, u.2.2.2.2.2.2.2.2.2.2.1, u.2.2.2.2.2.2.2.2.2.2.2.1, u.2.2.2.2.2.2.2.2.2.2.2.2.1, u.2.2.2.2.2.2.2.2.2.2.2.2.2.1, u.2.2.2.2.2.2.2.2.2.2.2.2.2.2.1, u.2.2.2.2.2.2.2.2.2.2.2.2.2.2.2.1, u.2.2.2.2.2.2.2.2.2.2.2.2.2.2.2.2.1, u.2.2.2.2.2.2.2.2.2.2.2.2.2.2.2.2.2.1, u.2.2.2.2.2.2.2.2.2.2.2.2.2.2.2.2.2.2.1, u.2.2.2.2.2.2.2.2.2.2.2.2.2.2.2.2.2.2.2.1, u.2.2.2.2.2.2.2.2.2.2.2.2.2.2.2.2.2.2.2.2)) : wpX_startWork post u := by
  obtain ⟨u_ms, u_ws, u_rs, u_an, u_ns, u_nv, u_nt, u_mg, u_ll, u_a1, u_a2, u_a3, u_a4, u_a5, u_a6, u_a7, u_a8, u_a9, u_a10, u_a11, u_a12⟩ := u
  exact h
theorem rr_hasAnswered {post : Int32 → Prop} {u : St2} {q i : Nat} (ha : u.2.2.2.1 = nI q) (hq : q < 8) (hi : i < 3) (h1 : q.testBit i = true → post 1) (h0 : q.testBit i = false → post 0) : wpX_hasAnswered post u (nI i) := by
  obtain ⟨u_ms, u_ws, u_rs, u_an, u_ns, u_nv, u_nt, u_mg, u_ll, u_a1, u_a2, u_a3, u_a4, u_a5, u_a6, u_a7, u_a8, u_a9, u_a10, u_a11, u_a12⟩ := u
  have ha' : u_an = nI q := ha
  subst ha'
  refine br_c (fun z => h0 ((rr_Q1 q hq i hi).mp z)) (fun z => h1 ?_)
  cases e : q.testBit i with
  | true => rfl
  | false => exact absurd ((rr_Q1 q hq i hi).mpr e) z
theorem rr_hear {post : St2 → Prop} {u : St2} {T : Nat → Int32 × Int32 × Int32} {H : Nat → Nat → Prop} {m k : Nat} (hm : m < 6) (hk : k < 16) (hC : rr_C T H u.2.2.2.2.2.2.2.2.2.2.2.1 u.2.2.2.2.2.2.2.2.2.2.2.2.1 u.2.2.2.2.2.2.2.2.2.2.2.2.2.1 u.2.2.2.2.2.2.2.2.2.2.2.2.2.2.1 u.2.2.2.2.2.2.2.2.2.2.2.2.2.2.2.1 u.2.2.2.2.2.2.2.2.2.2.2.2.2.2.2.2.1) (hn : rr_o (T k) u.2.2.2.2.1 u.2.2.2.2.2.1 u.2.2.2.2.2.2.1)
    (h : ∀ s v b, rr_o (T k) s v b → u.2.2.2.2.2.2.2.2.2.2.2.1 (m * 16 + k) ≤ s → u.2.2.2.2.1 ≤ s → (s = u.2.2.2.2.1 ∨ s = u.2.2.2.2.2.2.2.2.2.2.2.1 (m * 16 + k)) → post (u.1, u.2.1, u.2.2.1, u.2.2.2.1, s, v, b, u.2.2.2.2.2.2.2.1, u.2.2.2.2.2.2.2.2.1, u.2.2.2.2.2.2.2.2.2.1, u.2.2.2.2.2.2.2.2.2.2.1, u.2.2.2.2.2.2.2.2.2.2.2.1, u.2.2.2.2.2.2.2.2.2.2.2.2.1, u.2.2.2.2.2.2.2.2.2.2.2.2.2.1, u.2.2.2.2.2.2.2.2.2.2.2.2.2.2.1, u.2.2.2.2.2.2.2.2.2.2.2.2.2.2.2.1, u.2.2.2.2.2.2.2.2.2.2.2.2.2.2.2.2.1, u.2.2.2.2.2.2.2.2.2.2.2.2.2.2.2.2.2.1, u.2.2.2.2.2.2.2.2.2.2.2.2.2.2.2.2.2.2.1, u.2.2.2.2.2.2.2.2.2.2.2.2.2.2.2.2.2.2.2.1, u.2.2.2.2.2.2.2.2.2.2.2.2.2.2.2.2.2.2.2.2)) : wpX_hear post u (nI m) (nI k) := by
  obtain ⟨u_ms, u_ws, u_rs, u_an, u_ns, u_nv, u_nt, u_mg, u_ll, u_a1, u_a2, u_a3, u_a4, u_a5, u_a6, u_a7, u_a8, u_a9, u_a10, u_a11, u_a12⟩ := u
  refine nm_r rr_ix ⟨vp_in_nI (N := 96) (by omega) (by omega), ?_⟩
  rw [nI_clamp (show m * 16 + k < 2 ^ 31 by omega)]
  have o := hC.1 m hm k hk
  refine br_c (fun z => h _ _ _ hn z (Int32.le_refl _) (Or.inl rfl)) (fun z => ?_)
  refine ⟨vp_in_nI (N := 96) (by omega) (by omega), nm_e ⟨vp_in_nI (N := 96) (by omega) (by omega), nm_e ⟨vp_in_nI (N := 96) (by omega) (by omega), nm_e ⟨rr_narrow o.2.2.2, rr_fits o.2.2.2, ?_⟩⟩⟩⟩
  exact h _ _ _ o (Int32.le_refl _) (Int32.le_of_lt (Int32.not_le.mp z)) (Or.inr rfl)
theorem rr_store {post : St2 → Prop} {u : St2} {T : Nat → Int32 × Int32 × Int32} {H : Nat → Nat → Prop} {m k : Nat} (hm : m < 6) (hk : k < 16) (hC : rr_C T H u.2.2.2.2.2.2.2.2.2.2.2.1 u.2.2.2.2.2.2.2.2.2.2.2.2.1 u.2.2.2.2.2.2.2.2.2.2.2.2.2.1 u.2.2.2.2.2.2.2.2.2.2.2.2.2.2.1 u.2.2.2.2.2.2.2.2.2.2.2.2.2.2.2.1 u.2.2.2.2.2.2.2.2.2.2.2.2.2.2.2.2.1) (hn : rr_o (T k) u.2.2.2.2.1 u.2.2.2.2.2.1 u.2.2.2.2.2.2.1)
    (h : ∀ b3 b4 b5, rr_C T H b3 b4 b5 u.2.2.2.2.2.2.2.2.2.2.2.2.2.2.1 u.2.2.2.2.2.2.2.2.2.2.2.2.2.2.2.1 u.2.2.2.2.2.2.2.2.2.2.2.2.2.2.2.2.1 → u.2.2.2.2.1 ≤ b3 (m * 16 + k) → (b3 (m * 16 + k) = u.2.2.2.2.2.2.2.2.2.2.2.1 (m * 16 + k) ∨ b3 (m * 16 + k) = u.2.2.2.2.1) → (∀ j, j ≠ m * 16 + k → b3 j = u.2.2.2.2.2.2.2.2.2.2.2.1 j) → (∀ j, u.2.2.2.2.2.2.2.2.2.2.2.1 j ≤ b3 j) → post (u.1, u.2.1, u.2.2.1, u.2.2.2.1, u.2.2.2.2.1, u.2.2.2.2.2.1, u.2.2.2.2.2.2.1, u.2.2.2.2.2.2.2.1, u.2.2.2.2.2.2.2.2.1, u.2.2.2.2.2.2.2.2.2.1, u.2.2.2.2.2.2.2.2.2.2.1, b3, b4, b5, u.2.2.2.2.2.2.2.2.2.2.2.2.2.2.1, u.2.2.2.2.2.2.2.2.2.2.2.2.2.2.2.1, u.2.2.2.2.2.2.2.2.2.2.2.2.2.2.2.2.1, u.2.2.2.2.2.2.2.2.2.2.2.2.2.2.2.2.2.1, u.2.2.2.2.2.2.2.2.2.2.2.2.2.2.2.2.2.2.1, u.2.2.2.2.2.2.2.2.2.2.2.2.2.2.2.2.2.2.2.1, u.2.2.2.2.2.2.2.2.2.2.2.2.2.2.2.2.2.2.2.2)) : wpX_store post u (nI m) (nI k) := by
  obtain ⟨u_ms, u_ws, u_rs, u_an, u_ns, u_nv, u_nt, u_mg, u_ll, u_a1, u_a2, u_a3, u_a4, u_a5, u_a6, u_a7, u_a8, u_a9, u_a10, u_a11, u_a12⟩ := u
  refine nm_r rr_ix ⟨vp_in_nI (N := 96) (by omega) (by omega), ?_⟩
  rw [nI_clamp (show m * 16 + k < 2 ^ 31 by omega)]
  refine br_c (fun z => h _ _ _ hC z (Or.inl rfl) (fun _ _ => rfl) (fun _ => Int32.le_refl _)) (fun z => ?_)
  refine ⟨vp_in_nI (N := 96) (by omega) (by omega), nm_e ⟨vp_in_nI (N := 96) (by omega) (by omega), nm_e ⟨vp_in_nI (N := 96) (by omega) (by omega), nm_r (congrArg _ (rr_bool hn.2.2.2)) ?_⟩⟩⟩
  refine h _ _ _ (rr_C_store hC hm hk hn z) ?_ (Or.inr pk_us) (fun j hj => pk_un hj) (fun j => ?_)
  · rw [pk_us]; exact Int32.le_refl _
  · by_cases e : j = m * 16 + k
    · rw [e, pk_us]; exact Int32.le_of_lt (Int32.not_le.mp z)
    · rw [pk_un e]; exact Int32.le_refl _
theorem rr_hintW {post : St2 → Prop} {u : St2} {T : Nat → Int32 × Int32 × Int32} {H : Nat → Nat → Prop} {c m k : Nat} (hc : c < 6) (hm : m < 6) (hk : k < 16) (hC : rr_C T H u.2.2.2.2.2.2.2.2.2.2.2.1 u.2.2.2.2.2.2.2.2.2.2.2.2.1 u.2.2.2.2.2.2.2.2.2.2.2.2.2.1 u.2.2.2.2.2.2.2.2.2.2.2.2.2.2.1 u.2.2.2.2.2.2.2.2.2.2.2.2.2.2.2.1 u.2.2.2.2.2.2.2.2.2.2.2.2.2.2.2.2.1) (hn : rr_o (T k) u.2.2.2.2.1 u.2.2.2.2.2.1 u.2.2.2.2.2.2.1)
    (h : ∀ b6 b7 b8, rr_C T H u.2.2.2.2.2.2.2.2.2.2.2.1 u.2.2.2.2.2.2.2.2.2.2.2.2.1 u.2.2.2.2.2.2.2.2.2.2.2.2.2.1 b6 b7 b8 → post (u.1, u.2.1, u.2.2.1, u.2.2.2.1, u.2.2.2.2.1, u.2.2.2.2.2.1, u.2.2.2.2.2.2.1, u.2.2.2.2.2.2.2.1, u.2.2.2.2.2.2.2.2.1, u.2.2.2.2.2.2.2.2.2.1, u.2.2.2.2.2.2.2.2.2.2.1, u.2.2.2.2.2.2.2.2.2.2.2.1, u.2.2.2.2.2.2.2.2.2.2.2.2.1, u.2.2.2.2.2.2.2.2.2.2.2.2.2.1, b6, b7, b8, u.2.2.2.2.2.2.2.2.2.2.2.2.2.2.2.2.2.1, u.2.2.2.2.2.2.2.2.2.2.2.2.2.2.2.2.2.2.1, u.2.2.2.2.2.2.2.2.2.2.2.2.2.2.2.2.2.2.2.1, u.2.2.2.2.2.2.2.2.2.2.2.2.2.2.2.2.2.2.2.2)) : wpX_hint post u (nI c) (nI m) (nI k) := by
  obtain ⟨u_ms, u_ws, u_rs, u_an, u_ns, u_nv, u_nt, u_mg, u_ll, u_a1, u_a2, u_a3, u_a4, u_a5, u_a6, u_a7, u_a8, u_a9, u_a10, u_a11, u_a12⟩ := u
  refine nm_r rr_ixh ⟨vp_in_nI (N := 576) (by omega) (by omega), ?_⟩
  rw [nI_clamp (show (c * 6 + m) * 16 + k < 2 ^ 31 by omega)]
  refine br_c (fun z => h _ _ _ hC) (fun z => ?_)
  refine ⟨vp_in_nI (N := 576) (by omega) (by omega), nm_e ⟨vp_in_nI (N := 576) (by omega) (by omega), nm_e ⟨vp_in_nI (N := 576) (by omega) (by omega), nm_r (congrArg _ (rr_bool hn.2.2.2)) ?_⟩⟩⟩
  exact h _ _ _ (rr_C_hint hC hm hk hn)
theorem rr_erase {post : St2 → Prop} {u : St2} {T : Nat → Int32 × Int32 × Int32} {H : Nat → Nat → Prop} {m k : Nat} (hm : m < 6) (hk : k < 16) (hC : rr_C T H u.2.2.2.2.2.2.2.2.2.2.2.1 u.2.2.2.2.2.2.2.2.2.2.2.2.1 u.2.2.2.2.2.2.2.2.2.2.2.2.2.1 u.2.2.2.2.2.2.2.2.2.2.2.2.2.2.1 u.2.2.2.2.2.2.2.2.2.2.2.2.2.2.2.1 u.2.2.2.2.2.2.2.2.2.2.2.2.2.2.2.2.1) (hn : ¬ H m k)
    (h : ∀ b3 b4 b5, rr_C T H b3 b4 b5 u.2.2.2.2.2.2.2.2.2.2.2.2.2.2.1 u.2.2.2.2.2.2.2.2.2.2.2.2.2.2.2.1 u.2.2.2.2.2.2.2.2.2.2.2.2.2.2.2.2.1 → post (u.1, u.2.1, u.2.2.1, u.2.2.2.1, u.2.2.2.2.1, u.2.2.2.2.2.1, u.2.2.2.2.2.2.1, u.2.2.2.2.2.2.2.1, u.2.2.2.2.2.2.2.2.1, u.2.2.2.2.2.2.2.2.2.1, u.2.2.2.2.2.2.2.2.2.2.1, b3, b4, b5, u.2.2.2.2.2.2.2.2.2.2.2.2.2.2.1, u.2.2.2.2.2.2.2.2.2.2.2.2.2.2.2.1, u.2.2.2.2.2.2.2.2.2.2.2.2.2.2.2.2.1, u.2.2.2.2.2.2.2.2.2.2.2.2.2.2.2.2.2.1, u.2.2.2.2.2.2.2.2.2.2.2.2.2.2.2.2.2.2.1, u.2.2.2.2.2.2.2.2.2.2.2.2.2.2.2.2.2.2.2.1, u.2.2.2.2.2.2.2.2.2.2.2.2.2.2.2.2.2.2.2.2)) : wpX_erase post u (nI m) (nI k) := by
  obtain ⟨u_ms, u_ws, u_rs, u_an, u_ns, u_nv, u_nt, u_mg, u_ll, u_a1, u_a2, u_a3, u_a4, u_a5, u_a6, u_a7, u_a8, u_a9, u_a10, u_a11, u_a12⟩ := u
  refine nm_r rr_ix ⟨vp_in_nI (N := 96) (by omega) (by omega), ?_⟩
  rw [nI_clamp (show m * 16 + k < 2 ^ 31 by omega)]
  refine nm_e ⟨vp_in_nI (N := 96) (by omega) (by omega), nm_e ⟨vp_in_nI (N := 96) (by omega) (by omega), nm_e ?_⟩⟩
  exact h _ _ _ (rr_C_erase hC hk hn)
theorem rr_leader {post : Int32 → Prop} {u : St2} (h : ∀ m, m < 6 → post (nI m)) : wpX_leader post u := by
  obtain ⟨u_ms, u_ws, u_rs, u_an, u_ns, u_nv, u_nt, u_mg, u_ll, u_a1, u_a2, u_a3, u_a4, u_a5, u_a6, u_a7, u_a8, u_a9, u_a10, u_a11, u_a12⟩ := u
  exact pk_loop (σ := Unit) (fun n i _ => wX_leader_2 post u_ms u_ws u_rs u_an u_ns u_nv u_nt u_mg u_ll u_a1 u_a2 u_a3 u_a4 u_a5 u_a6 u_a7 u_a8 u_a9 u_a10 u_a11 u_a12 n (nI i)) (fun _ _ => True) 5 0 () (by omega) trivial
    (fun n _ _ => br_t (nI_le (Nat.le_refl 5) (by decide)) (h 5 (by omega)))
    (fun n i _ hi _ hw => br_f (nI_ge (b := 5) hi (by decide)) (rr_isWorking (by omega) (fun _ => br_f (by decide) (h i (by omega))) (fun _ => br_t rfl (nm_r (nI_1 i) (hw () trivial)))))
theorem rr_readNumber {post : Int32 → Prop} {u : St2} (h0 : u.2.2.2.2.1 = 0 → post (-200000)) (h1 : ¬ u.2.2.2.2.1 = 0 → u.2.2.2.2.2.2.1 = 0 → post u.2.2.2.2.2.1) (h2 : ¬ u.2.2.2.2.1 = 0 → ¬ u.2.2.2.2.2.2.1 = 0 → post (-200000)) : wpX_readNumber post u := by
  obtain ⟨u_ms, u_ws, u_rs, u_an, u_ns, u_nv, u_nt, u_mg, u_ll, u_a1, u_a2, u_a3, u_a4, u_a5, u_a6, u_a7, u_a8, u_a9, u_a10, u_a11, u_a12⟩ := u
  exact br_c h0 (fun z => br_c (h1 z) (h2 z))
end
section
theorem rr_lay_s (M : Int32) (j : Nat) : rr_lay M (j + 1) = if rr_bit M (j / 4) = true then rr_ins (rr_mix (nI (j + 100))) (nI (j / 4)) (rr_lay M j) else rr_lay M j := rfl
theorem rr_er55 {post : St2 → Prop} {p m : Int32} (hm : m.toInt8.toInt32 = m) {u : St2} {j : Nat} (hj : j < 24)
    (h : post (u.1, u.2.1, u.2.2.1 + 1, u.2.2.2.1, u.2.2.2.2.1, u.2.2.2.2.2.1, u.2.2.2.2.2.2.1, u.2.2.2.2.2.2.2.1, u.2.2.2.2.2.2.2.2.1, upd u.2.2.2.2.2.2.2.2.2.1 j p, upd u.2.2.2.2.2.2.2.2.2.2.1 j m, u.2.2.2.2.2.2.2.2.2.2.2.1, u.2.2.2.2.2.2.2.2.2.2.2.2.1, u.2.2.2.2.2.2.2.2.2.2.2.2.2.1, u.2.2.2.2.2.2.2.2.2.2.2.2.2.2.1, u.2.2.2.2.2.2.2.2.2.2.2.2.2.2.2.1, u.2.2.2.2.2.2.2.2.2.2.2.2.2.2.2.2.1, u.2.2.2.2.2.2.2.2.2.2.2.2.2.2.2.2.2.1, u.2.2.2.2.2.2.2.2.2.2.2.2.2.2.2.2.2.2.1, u.2.2.2.2.2.2.2.2.2.2.2.2.2.2.2.2.2.2.2.1, u.2.2.2.2.2.2.2.2.2.2.2.2.2.2.2.2.2.2.2.2)) : wX_enterRing_55 post p m (nI j) u.1 u.2.1 u.2.2.1 u.2.2.2.1 u.2.2.2.2.1 u.2.2.2.2.2.1 u.2.2.2.2.2.2.1 u.2.2.2.2.2.2.2.1 u.2.2.2.2.2.2.2.2.1 u.2.2.2.2.2.2.2.2.2.1 u.2.2.2.2.2.2.2.2.2.2.1 u.2.2.2.2.2.2.2.2.2.2.2.1 u.2.2.2.2.2.2.2.2.2.2.2.2.1 u.2.2.2.2.2.2.2.2.2.2.2.2.2.1 u.2.2.2.2.2.2.2.2.2.2.2.2.2.2.1 u.2.2.2.2.2.2.2.2.2.2.2.2.2.2.2.1 u.2.2.2.2.2.2.2.2.2.2.2.2.2.2.2.2.1 u.2.2.2.2.2.2.2.2.2.2.2.2.2.2.2.2.2.1 u.2.2.2.2.2.2.2.2.2.2.2.2.2.2.2.2.2.2.1 u.2.2.2.2.2.2.2.2.2.2.2.2.2.2.2.2.2.2.2.1 u.2.2.2.2.2.2.2.2.2.2.2.2.2.2.2.2.2.2.2.2 := by
  have e : (nI j).toNatClampNeg = j := nI_clamp (by omega)
  refine ⟨pk_in j 24 hj, nm_r (e' := upd u.2.2.2.2.2.2.2.2.2.1 j p) (by rw [e]) ⟨pk_in j 24 hj, nm_r (e' := upd u.2.2.2.2.2.2.2.2.2.2.1 j m) (by rw [e, hm]) (nm_e h)⟩⟩
theorem rr_er {post : St2 → Prop} {p m : Int32} (hm : m.toInt8.toInt32 = m) {u : St2} : ∀ (L : List (Int32 × Int32)) (a1 a2 : Nat → Int32), L.length < 24 → rr_Mt L a1 a2 → (∀ x, x ∈ L → x.2.toInt8.toInt32 = x.2) →
    (∀ b1 b2, rr_Mt (rr_ins p m L) b1 b2 → (∀ i, L.length < i → b1 i = a1 i ∧ b2 i = a2 i) → post (u.1, u.2.1, u.2.2.1 + 1, u.2.2.2.1, u.2.2.2.2.1, u.2.2.2.2.2.1, u.2.2.2.2.2.2.1, u.2.2.2.2.2.2.2.1, u.2.2.2.2.2.2.2.2.1, b1, b2, u.2.2.2.2.2.2.2.2.2.2.2.1, u.2.2.2.2.2.2.2.2.2.2.2.2.1, u.2.2.2.2.2.2.2.2.2.2.2.2.2.1, u.2.2.2.2.2.2.2.2.2.2.2.2.2.2.1, u.2.2.2.2.2.2.2.2.2.2.2.2.2.2.2.1, u.2.2.2.2.2.2.2.2.2.2.2.2.2.2.2.2.1, u.2.2.2.2.2.2.2.2.2.2.2.2.2.2.2.2.2.1, u.2.2.2.2.2.2.2.2.2.2.2.2.2.2.2.2.2.2.1, u.2.2.2.2.2.2.2.2.2.2.2.2.2.2.2.2.2.2.2.1, u.2.2.2.2.2.2.2.2.2.2.2.2.2.2.2.2.2.2.2.2)) →
    wX_enterRing_5 post p m u.1 u.2.1 u.2.2.1 u.2.2.2.1 u.2.2.2.2.1 u.2.2.2.2.2.1 u.2.2.2.2.2.2.1 u.2.2.2.2.2.2.2.1 u.2.2.2.2.2.2.2.2.1 (L.length + 1) (nI L.length) a1 a2 u.2.2.2.2.2.2.2.2.2.2.2.1 u.2.2.2.2.2.2.2.2.2.2.2.2.1 u.2.2.2.2.2.2.2.2.2.2.2.2.2.1 u.2.2.2.2.2.2.2.2.2.2.2.2.2.2.1 u.2.2.2.2.2.2.2.2.2.2.2.2.2.2.2.1 u.2.2.2.2.2.2.2.2.2.2.2.2.2.2.2.2.1 u.2.2.2.2.2.2.2.2.2.2.2.2.2.2.2.2.2.1 u.2.2.2.2.2.2.2.2.2.2.2.2.2.2.2.2.2.2.1 u.2.2.2.2.2.2.2.2.2.2.2.2.2.2.2.2.2.2.2.1 u.2.2.2.2.2.2.2.2.2.2.2.2.2.2.2.2.2.2.2.2 := by
  intro L
  induction L with
  | nil =>
    intro a1 a2 _ _ _ h
    refine br_t (Int32.le_refl 0) (rr_er55 (u := (u.1, u.2.1, u.2.2.1, u.2.2.2.1, u.2.2.2.2.1, u.2.2.2.2.2.1, u.2.2.2.2.2.2.1, u.2.2.2.2.2.2.2.1, u.2.2.2.2.2.2.2.2.1, a1, a2, u.2.2.2.2.2.2.2.2.2.2.2.1, u.2.2.2.2.2.2.2.2.2.2.2.2.1, u.2.2.2.2.2.2.2.2.2.2.2.2.2.1, u.2.2.2.2.2.2.2.2.2.2.2.2.2.2.1, u.2.2.2.2.2.2.2.2.2.2.2.2.2.2.2.1, u.2.2.2.2.2.2.2.2.2.2.2.2.2.2.2.2.1, u.2.2.2.2.2.2.2.2.2.2.2.2.2.2.2.2.2.1, u.2.2.2.2.2.2.2.2.2.2.2.2.2.2.2.2.2.2.1, u.2.2.2.2.2.2.2.2.2.2.2.2.2.2.2.2.2.2.2.1, u.2.2.2.2.2.2.2.2.2.2.2.2.2.2.2.2.2.2.2.2)) (j := 0) hm (by omega) (h _ _ ⟨pk_us, pk_us, trivial⟩ (fun i hi => ⟨pk_un ?_, pk_un ?_⟩)))
    · simp only [List.length_nil] at hi; omega
    · simp only [List.length_nil] at hi; omega
  | cons x L ih =>
    intro a1 a2 hl hM hb h
    simp only [List.length_cons] at hl h
    obtain ⟨h1, h2, h3⟩ := hM
    rw [List.length_cons]
    refine br_f (nI_nle (by omega) (by omega)) ?_
    rw [nI_pred, nI_clamp (show L.length < 2 ^ 31 by omega), h1, h2, nI_clamp (show L.length + 1 < 2 ^ 31 by omega)]
    refine ⟨vp_in_nI (N := 24) (by omega) (by omega), br_c (fun z => ?_) (fun z => ?_)⟩
    · refine rr_er55 (u := (u.1, u.2.1, u.2.2.1, u.2.2.2.1, u.2.2.2.2.1, u.2.2.2.2.2.1, u.2.2.2.2.2.2.1, u.2.2.2.2.2.2.2.1, u.2.2.2.2.2.2.2.2.1, a1, a2, u.2.2.2.2.2.2.2.2.2.2.2.1, u.2.2.2.2.2.2.2.2.2.2.2.2.1, u.2.2.2.2.2.2.2.2.2.2.2.2.2.1, u.2.2.2.2.2.2.2.2.2.2.2.2.2.2.1, u.2.2.2.2.2.2.2.2.2.2.2.2.2.2.2.1, u.2.2.2.2.2.2.2.2.2.2.2.2.2.2.2.2.1, u.2.2.2.2.2.2.2.2.2.2.2.2.2.2.2.2.2.1, u.2.2.2.2.2.2.2.2.2.2.2.2.2.2.2.2.2.2.1, u.2.2.2.2.2.2.2.2.2.2.2.2.2.2.2.2.2.2.2.1, u.2.2.2.2.2.2.2.2.2.2.2.2.2.2.2.2.2.2.2.2)) hm (by omega) (h _ _ ?_ (fun i hi => ⟨pk_un (by omega), pk_un (by omega)⟩))
      unfold rr_ins
      rw [if_pos z]
      refine ⟨?_, ?_, ?_, ?_, ?_⟩
      · exact pk_us
      · exact pk_us
      · exact (pk_un (by omega)).trans h1
      · exact (pk_un (by omega)).trans h2
      · exact rr_Mt_up h3 (fun i hi => pk_un (by omega)) (fun i hi => pk_un (by omega))
    · refine ⟨vp_in_nI (N := 24) (by omega) (by omega), vp_in_nI (N := 24) (by omega) (by omega), nm_e ⟨vp_in_nI (N := 24) (by omega) (by omega), vp_in_nI (N := 24) (by omega) (by omega), nm_r (e' := upd a2 (L.length + 1) x.2) ?_ (nm_r (pk_m1 _) ?_)⟩⟩
      · rw [vp_nar_byte, hb x List.mem_cons_self]
      · refine ih _ _ (by omega) (rr_Mt_up h3 (fun i hi => pk_un (by omega)) (fun i hi => pk_un (by omega))) (fun y hy => hb y (List.mem_cons_of_mem _ hy)) (fun b1 b2 k1 k2 => h b1 b2 ?_ (fun i hi => ?_))
        · unfold rr_ins
          rw [if_neg z]
          refine ⟨?_, ?_, k1⟩
          · rw [rr_ins_len, (k2 (L.length + 1) (by omega)).1, pk_us]
          · rw [rr_ins_len, (k2 (L.length + 1) (by omega)).2, pk_us]
        · rw [(k2 i (by omega)).1, (k2 i (by omega)).2, pk_un (show i ≠ L.length + 1 by omega), pk_un (show i ≠ L.length + 1 by omega)]
          exact ⟨rfl, rfl⟩
theorem rr_enterRing {post : St2 → Prop} {p m : Int32} {u : St2} {L : List (Int32 × Int32)} (hm : m.toInt8.toInt32 = m) (hr : u.2.2.1 = nI L.length) (hl : L.length < 24) (hM : rr_Mt L u.2.2.2.2.2.2.2.2.2.1 u.2.2.2.2.2.2.2.2.2.2.1) (hb : ∀ x, x ∈ L → x.2.toInt8.toInt32 = x.2)
    (h : ∀ b1 b2, rr_Mt (rr_ins p m L) b1 b2 → post (u.1, u.2.1, nI L.length + 1, u.2.2.2.1, u.2.2.2.2.1, u.2.2.2.2.2.1, u.2.2.2.2.2.2.1, u.2.2.2.2.2.2.2.1, u.2.2.2.2.2.2.2.2.1, b1, b2, u.2.2.2.2.2.2.2.2.2.2.2.1, u.2.2.2.2.2.2.2.2.2.2.2.2.1, u.2.2.2.2.2.2.2.2.2.2.2.2.2.1, u.2.2.2.2.2.2.2.2.2.2.2.2.2.2.1, u.2.2.2.2.2.2.2.2.2.2.2.2.2.2.2.1, u.2.2.2.2.2.2.2.2.2.2.2.2.2.2.2.2.1, u.2.2.2.2.2.2.2.2.2.2.2.2.2.2.2.2.2.1, u.2.2.2.2.2.2.2.2.2.2.2.2.2.2.2.2.2.2.1, u.2.2.2.2.2.2.2.2.2.2.2.2.2.2.2.2.2.2.2.1, u.2.2.2.2.2.2.2.2.2.2.2.2.2.2.2.2.2.2.2.2)) : wpX_enterRing post u p m := by
  obtain ⟨u_ms, u_ws, u_rs, u_an, u_ns, u_nv, u_nt, u_mg, u_ll, u_a1, u_a2, u_a3, u_a4, u_a5, u_a6, u_a7, u_a8, u_a9, u_a10, u_a11, u_a12⟩ := u
  have hr' : u_rs = nI L.length := hr
  subst hr'
  exact ⟨_, rr_er (u := (u_ms, u_ws, nI L.length, u_an, u_ns, u_nv, u_nt, u_mg, u_ll, u_a1, u_a2, u_a3, u_a4, u_a5, u_a6, u_a7, u_a8, u_a9, u_a10, u_a11, u_a12)) hm L u_a1 u_a2 hl hM hb (fun b1 b2 k1 _ => h b1 b2 k1)⟩
theorem rr_lay15 {post : St2 → Prop} {J : Int32 → Int32 → Int32 → Int32 → Int32 → Int32 → Int32 → Int32 → Int32 → Int32 → (Nat → Int32) → (Nat → Int32) → (Nat → Int32) → (Nat → Int32) → (Nat → Int32) → (Nat → Int32) → (Nat → Int32) → (Nat → Int32) → (Nat → Int32) → (Nat → Int32) → (Nat → Int32) → (Nat → Int32) → Prop} {u : St2} {m : Nat} (hm : m < 6)
    (h : ∀ r b1 b2, r = nI (rr_lay u.1 (4 * m + 4)).length → rr_Mt (rr_lay u.1 (4 * m + 4)) b1 b2 → J (nI (m + 1)) u.1 u.2.1 r u.2.2.2.1 u.2.2.2.2.1 u.2.2.2.2.2.1 u.2.2.2.2.2.2.1 u.2.2.2.2.2.2.2.1 u.2.2.2.2.2.2.2.2.1 b1 b2 u.2.2.2.2.2.2.2.2.2.2.2.1 u.2.2.2.2.2.2.2.2.2.2.2.2.1 u.2.2.2.2.2.2.2.2.2.2.2.2.2.1 u.2.2.2.2.2.2.2.2.2.2.2.2.2.2.1 u.2.2.2.2.2.2.2.2.2.2.2.2.2.2.2.1 u.2.2.2.2.2.2.2.2.2.2.2.2.2.2.2.2.1 u.2.2.2.2.2.2.2.2.2.2.2.2.2.2.2.2.2.1 u.2.2.2.2.2.2.2.2.2.2.2.2.2.2.2.2.2.2.1 u.2.2.2.2.2.2.2.2.2.2.2.2.2.2.2.2.2.2.2.1 u.2.2.2.2.2.2.2.2.2.2.2.2.2.2.2.2.2.2.2.2) :
    ∀ f i r b1 b2, i + f = 4 → r = nI (rr_lay u.1 (4 * m + i)).length → rr_Mt (rr_lay u.1 (4 * m + i)) b1 b2 → wX_layRing_15 post J (nI m) (f + 1) (nI i) u.1 u.2.1 r u.2.2.2.1 u.2.2.2.2.1 u.2.2.2.2.2.1 u.2.2.2.2.2.2.1 u.2.2.2.2.2.2.2.1 u.2.2.2.2.2.2.2.2.1 b1 b2 u.2.2.2.2.2.2.2.2.2.2.2.1 u.2.2.2.2.2.2.2.2.2.2.2.2.1 u.2.2.2.2.2.2.2.2.2.2.2.2.2.1 u.2.2.2.2.2.2.2.2.2.2.2.2.2.2.1 u.2.2.2.2.2.2.2.2.2.2.2.2.2.2.2.1 u.2.2.2.2.2.2.2.2.2.2.2.2.2.2.2.2.1 u.2.2.2.2.2.2.2.2.2.2.2.2.2.2.2.2.2.1 u.2.2.2.2.2.2.2.2.2.2.2.2.2.2.2.2.2.2.1 u.2.2.2.2.2.2.2.2.2.2.2.2.2.2.2.2.2.2.2.1 u.2.2.2.2.2.2.2.2.2.2.2.2.2.2.2.2.2.2.2.2 := by
  intro f
  induction f with
  | zero =>
    intro i r b1 b2 hi hr hM
    have hi4 : i = 4 := by omega
    subst hi4
    exact br_t (Int32.le_refl _) (nm_r (nI_1 m) (h r b1 b2 hr hM))
  | succ f ih =>
    intro i r b1 b2 hi hr hM
    have e4 : (4 * m + i) / 4 = m := by omega
    have hlen := rr_lay_len u.1 (4 * m + i)
    refine br_f (nI_ge (b := 4) (by omega) (by decide)) (rr_isMember hm (fun hb => br_f (by decide) (rr_mixed ?_)) (fun hb => br_t rfl (nm_r (nI_1 i) (ih (i + 1) r b1 b2 (by omega) ?_ ?_))))
    · have em : ((nI m * 4) + nI i) + 100 = nI (4 * m + i + 100) := by
        rw [show (4 : Int32) = nI 4 from rfl, show (100 : Int32) = nI 100 from rfl, pk_mul, nI_add, nI_add, Nat.mul_comm]
      have el : rr_lay u.1 (4 * m + (i + 1)) = rr_ins (rr_mix (nI (4 * m + i + 100))) (nI m) (rr_lay u.1 (4 * m + i)) := by
        rw [show 4 * m + (i + 1) = (4 * m + i) + 1 from rfl, rr_lay_s, e4, if_pos hb]
      rw [em]
      refine rr_enterRing (L := rr_lay u.1 (4 * m + i)) (rr_byte m hm) hr (by omega) hM (rr_lay_byte _ _ (by omega)) (fun c1 c2 k1 => nm_r (nI_1 i) (ih (i + 1) _ c1 c2 (by omega) ?_ ?_))
      · rw [el, rr_ins_len, nI_1]
      · rw [el]; exact k1
    · have el : rr_lay u.1 (4 * m + (i + 1)) = rr_lay u.1 (4 * m + i) := by
        rw [show 4 * m + (i + 1) = (4 * m + i) + 1 from rfl, rr_lay_s, e4, if_neg (by rw [hb]; decide)]
      rw [el]; exact hr
    · have el : rr_lay u.1 (4 * m + (i + 1)) = rr_lay u.1 (4 * m + i) := by
        rw [show 4 * m + (i + 1) = (4 * m + i) + 1 from rfl, rr_lay_s, e4, if_neg (by rw [hb]; decide)]
      rw [el]; exact hM
theorem rr_lay7 {post : St2 → Prop} {u : St2} (h : ∀ r b1 b2, r = nI (rr_lay u.1 24).length → rr_Mt (rr_lay u.1 24) b1 b2 → post (u.1, u.2.1, r, u.2.2.2.1, u.2.2.2.2.1, u.2.2.2.2.2.1, u.2.2.2.2.2.2.1, u.2.2.2.2.2.2.2.1, u.2.2.2.2.2.2.2.2.1, b1, b2, u.2.2.2.2.2.2.2.2.2.2.2.1, u.2.2.2.2.2.2.2.2.2.2.2.2.1, u.2.2.2.2.2.2.2.2.2.2.2.2.2.1, u.2.2.2.2.2.2.2.2.2.2.2.2.2.2.1, u.2.2.2.2.2.2.2.2.2.2.2.2.2.2.2.1, u.2.2.2.2.2.2.2.2.2.2.2.2.2.2.2.2.1, u.2.2.2.2.2.2.2.2.2.2.2.2.2.2.2.2.2.1, u.2.2.2.2.2.2.2.2.2.2.2.2.2.2.2.2.2.2.1, u.2.2.2.2.2.2.2.2.2.2.2.2.2.2.2.2.2.2.2.1, u.2.2.2.2.2.2.2.2.2.2.2.2.2.2.2.2.2.2.2.2)) :
    ∀ f m r b1 b2, m + f = 6 → r = nI (rr_lay u.1 (4 * m)).length → rr_Mt (rr_lay u.1 (4 * m)) b1 b2 → wX_layRing_7 post (f + 1) (nI m) u.1 u.2.1 r u.2.2.2.1 u.2.2.2.2.1 u.2.2.2.2.2.1 u.2.2.2.2.2.2.1 u.2.2.2.2.2.2.2.1 u.2.2.2.2.2.2.2.2.1 b1 b2 u.2.2.2.2.2.2.2.2.2.2.2.1 u.2.2.2.2.2.2.2.2.2.2.2.2.1 u.2.2.2.2.2.2.2.2.2.2.2.2.2.1 u.2.2.2.2.2.2.2.2.2.2.2.2.2.2.1 u.2.2.2.2.2.2.2.2.2.2.2.2.2.2.2.1 u.2.2.2.2.2.2.2.2.2.2.2.2.2.2.2.2.1 u.2.2.2.2.2.2.2.2.2.2.2.2.2.2.2.2.2.1 u.2.2.2.2.2.2.2.2.2.2.2.2.2.2.2.2.2.2.1 u.2.2.2.2.2.2.2.2.2.2.2.2.2.2.2.2.2.2.2.1 u.2.2.2.2.2.2.2.2.2.2.2.2.2.2.2.2.2.2.2.2 := by
  intro f
  induction f with
  | zero =>
    intro m r b1 b2 hi hr hM
    have hi4 : m = 6 := by omega
    subst hi4
    exact br_t (Int32.le_refl _) (h r b1 b2 hr hM)
  | succ f ih =>
    intro m r b1 b2 hi hr hM
    refine br_f (nI_ge (b := 6) (by omega) (by decide)) ⟨4 + 1, rr_lay15 (u := u) (by omega) (fun r' c1 c2 k1 k2 => ih (m + 1) r' c1 c2 (by omega) ?_ ?_) 4 0 r b1 b2 (by omega) hr hM⟩
    · rw [show 4 * (m + 1) = 4 * m + 4 by omega]; exact k1
    · rw [show 4 * (m + 1) = 4 * m + 4 by omega]; exact k2
theorem rr_layRing {post : St2 → Prop} {u : St2} {M : Nat} (hS : M ∈ rr_sets) (hm : u.1 = nI M) (h : ∀ b1 b2, rr_Mt (rr_ring M) b1 b2 → post (u.1, u.2.1, nI (rr_ring M).length, u.2.2.2.1, u.2.2.2.2.1, u.2.2.2.2.2.1, u.2.2.2.2.2.2.1, u.2.2.2.2.2.2.2.1, u.2.2.2.2.2.2.2.2.1, b1, b2, u.2.2.2.2.2.2.2.2.2.2.2.1, u.2.2.2.2.2.2.2.2.2.2.2.2.1, u.2.2.2.2.2.2.2.2.2.2.2.2.2.1, u.2.2.2.2.2.2.2.2.2.2.2.2.2.2.1, u.2.2.2.2.2.2.2.2.2.2.2.2.2.2.2.1, u.2.2.2.2.2.2.2.2.2.2.2.2.2.2.2.2.1, u.2.2.2.2.2.2.2.2.2.2.2.2.2.2.2.2.2.1, u.2.2.2.2.2.2.2.2.2.2.2.2.2.2.2.2.2.2.1, u.2.2.2.2.2.2.2.2.2.2.2.2.2.2.2.2.2.2.2.1, u.2.2.2.2.2.2.2.2.2.2.2.2.2.2.2.2.2.2.2.2)) : wpX_layRing post u := by
  obtain ⟨u_ms, u_ws, u_rs, u_an, u_ns, u_nv, u_nt, u_mg, u_ll, u_a1, u_a2, u_a3, u_a4, u_a5, u_a6, u_a7, u_a8, u_a9, u_a10, u_a11, u_a12⟩ := u
  have hm' : u_ms = nI M := hm
  subst hm'
  refine ⟨6 + 1, rr_lay7 (u := (nI M, u_ws, u_rs, u_an, u_ns, u_nv, u_nt, u_mg, u_ll, u_a1, u_a2, u_a3, u_a4, u_a5, u_a6, u_a7, u_a8, u_a9, u_a10, u_a11, u_a12)) (fun r b1 b2 hr hM => ?_) 6 0 0 u_a1 u_a2 (by omega) rfl trivial⟩
  have hr' : r = nI (rr_lay (nI M) 24).length := hr
  have hM' : rr_Mt (rr_lay (nI M) 24) b1 b2 := hM
  rw [rr_F1 M hS] at hr' hM'
  subst hr'
  exact h b1 b2 hM'
theorem rr_fk75 {post : St2 → Prop} {u : St2} {lo N : Nat} {o : Nat → Int32} (hr : u.2.2.1 = nI N) (hN : 0 < N) (hN2 : N ≤ 24) (hlo : lo ≤ 24) (ho : ∀ i, i < N → u.2.2.2.2.2.2.2.2.2.2.1 i = o i) (hb : ∀ i, i < 24 → (o i).toInt8.toInt32 = o i) :
    ∀ f i st (ks : List Int32) a9, i + f = N → ks.length ≤ 3 → (∀ j, j < ks.length → a9 j = ks.getD j 0) →
    (∀ b9, (∀ j, j < (rr_sk o lo N f i st ks).length → b9 j = (rr_sk o lo N f i st ks).getD j 0) → post (u.1, u.2.1, u.2.2.1, u.2.2.2.1, u.2.2.2.2.1, u.2.2.2.2.2.1, u.2.2.2.2.2.2.1, u.2.2.2.2.2.2.2.1, u.2.2.2.2.2.2.2.2.1, u.2.2.2.2.2.2.2.2.2.1, u.2.2.2.2.2.2.2.2.2.2.1, u.2.2.2.2.2.2.2.2.2.2.2.1, u.2.2.2.2.2.2.2.2.2.2.2.2.1, u.2.2.2.2.2.2.2.2.2.2.2.2.2.1, u.2.2.2.2.2.2.2.2.2.2.2.2.2.2.1, u.2.2.2.2.2.2.2.2.2.2.2.2.2.2.2.1, u.2.2.2.2.2.2.2.2.2.2.2.2.2.2.2.2.1, b9, u.2.2.2.2.2.2.2.2.2.2.2.2.2.2.2.2.2.2.1, u.2.2.2.2.2.2.2.2.2.2.2.2.2.2.2.2.2.2.2.1, u.2.2.2.2.2.2.2.2.2.2.2.2.2.2.2.2.2.2.2.2)) →
    wX_findKeepers_75 post (nI lo) u.1 u.2.1 u.2.2.1 u.2.2.2.1 u.2.2.2.2.1 u.2.2.2.2.2.1 u.2.2.2.2.2.2.1 u.2.2.2.2.2.2.2.1 u.2.2.2.2.2.2.2.2.1 (f + 1) (nI ks.length) st (nI i) u.2.2.2.2.2.2.2.2.2.1 u.2.2.2.2.2.2.2.2.2.2.1 u.2.2.2.2.2.2.2.2.2.2.2.1 u.2.2.2.2.2.2.2.2.2.2.2.2.1 u.2.2.2.2.2.2.2.2.2.2.2.2.2.1 u.2.2.2.2.2.2.2.2.2.2.2.2.2.2.1 u.2.2.2.2.2.2.2.2.2.2.2.2.2.2.2.1 u.2.2.2.2.2.2.2.2.2.2.2.2.2.2.2.2.1 a9 u.2.2.2.2.2.2.2.2.2.2.2.2.2.2.2.2.2.2.1 u.2.2.2.2.2.2.2.2.2.2.2.2.2.2.2.2.2.2.2.1 u.2.2.2.2.2.2.2.2.2.2.2.2.2.2.2.2.2.2.2.2 := by
  intro f
  induction f with
  | zero =>
    intro i st ks a9 hi hk h9 h
    have hi' : i = N := by omega
    subst hi'
    exact br_t (by rw [hr]; exact Int32.le_refl _) (h a9 h9)
  | succ f ih =>
    intro i st ks a9 hi hk h9 h
    have e1 : (nI lo + nI i) - (nI lo + nI i) / u.2.2.1 * u.2.2.1 = nI ((lo + i) % N) := by
      rw [hr, nI_add, pk_rem (by omega) hN (by omega)]
    have hx : (lo + i) % N < N := Nat.mod_lt _ hN
    unfold rr_sk at h
    refine br_f (by rw [hr]; exact nI_ge (by omega) (by omega)) (pk_le 3 ks.length (fun z => h a9 ?_) (fun z => ⟨by rw [hr]; exact nI_ne0 hN (by omega), ?_⟩))
    · rw [if_pos z]; exact h9
    · rw [if_neg (by omega)] at h
      rw [e1, nI_clamp (show (lo + i) % N < 2 ^ 31 by omega), ho _ hx]
      refine ⟨vp_in_nI (N := 24) (by omega) (by omega), nm_e (br_c (fun y => ?_) (fun y => ?_))⟩
      · rw [if_pos y] at h
        refine nm_e ⟨pk_in ks.length 3 (by omega), nm_r (e' := upd a9 ks.length (o ((lo + i) % N))) ?_ (nm_r (nI_1 _) (nm_r (nI_1 i) ?_))⟩
        · rw [nI_clamp (show ks.length < 2 ^ 31 by omega), hb _ (by omega)]
        · have el : (ks ++ [o ((lo + i) % N)]).length = ks.length + 1 := by simp
          have w := ih (i + 1) (st ||| ((1 : Int32) <<< (o ((lo + i) % N) &&& 31))) (ks ++ [o ((lo + i) % N)]) (upd a9 ks.length (o ((lo + i) % N))) (by omega) (by omega) (fun j hj => ?_) h
          · rw [el] at w; exact w
          · rw [el] at hj
            by_cases e : j = ks.length
            · rw [e, pk_us]; simp
            · rw [pk_un e, h9 j (by omega)]
              rw [List.getD_eq_getElem?_getD, List.getD_eq_getElem?_getD, List.getElem?_append_left (by omega)]
      · rw [if_neg y] at h
        exact nm_r (nI_1 i) (ih (i + 1) st ks a9 (by omega) hk h9 h)
theorem rr_fk16 {post : St2 → Prop} {u : St2} {N : Nat} {p : Int32} {g : Nat → Int32} (hN2 : N ≤ 24) (hg : ∀ i, i < N → u.2.2.2.2.2.2.2.2.2.1 i = g i) :
    ∀ f lo hi, f ≤ 6 → lo ≤ hi → hi ≤ N → (∃ fu, wX_findKeepers_75 post (nI (rr_bs g p f lo hi)) u.1 u.2.1 u.2.2.1 u.2.2.2.1 u.2.2.2.2.1 u.2.2.2.2.2.1 u.2.2.2.2.2.2.1 u.2.2.2.2.2.2.2.1 u.2.2.2.2.2.2.2.2.1 fu 0 0 0 u.2.2.2.2.2.2.2.2.2.1 u.2.2.2.2.2.2.2.2.2.2.1 u.2.2.2.2.2.2.2.2.2.2.2.1 u.2.2.2.2.2.2.2.2.2.2.2.2.1 u.2.2.2.2.2.2.2.2.2.2.2.2.2.1 u.2.2.2.2.2.2.2.2.2.2.2.2.2.2.1 u.2.2.2.2.2.2.2.2.2.2.2.2.2.2.2.1 u.2.2.2.2.2.2.2.2.2.2.2.2.2.2.2.2.1 u.2.2.2.2.2.2.2.2.2.2.2.2.2.2.2.2.2.1 u.2.2.2.2.2.2.2.2.2.2.2.2.2.2.2.2.2.2.1 u.2.2.2.2.2.2.2.2.2.2.2.2.2.2.2.2.2.2.2.1 u.2.2.2.2.2.2.2.2.2.2.2.2.2.2.2.2.2.2.2.2) → wX_findKeepers_16 post p u.1 u.2.1 u.2.2.1 u.2.2.2.1 u.2.2.2.2.1 u.2.2.2.2.2.1 u.2.2.2.2.2.2.1 u.2.2.2.2.2.2.2.1 u.2.2.2.2.2.2.2.2.1 u.2.2.2.2.2.2.2.2.2.1 u.2.2.2.2.2.2.2.2.2.2.1 u.2.2.2.2.2.2.2.2.2.2.2.1 u.2.2.2.2.2.2.2.2.2.2.2.2.1 u.2.2.2.2.2.2.2.2.2.2.2.2.2.1 u.2.2.2.2.2.2.2.2.2.2.2.2.2.2.1 u.2.2.2.2.2.2.2.2.2.2.2.2.2.2.2.1 u.2.2.2.2.2.2.2.2.2.2.2.2.2.2.2.2.1 u.2.2.2.2.2.2.2.2.2.2.2.2.2.2.2.2.2.1 u.2.2.2.2.2.2.2.2.2.2.2.2.2.2.2.2.2.2.1 u.2.2.2.2.2.2.2.2.2.2.2.2.2.2.2.2.2.2.2.1 u.2.2.2.2.2.2.2.2.2.2.2.2.2.2.2.2.2.2.2.2 (f + 1) (nI lo) (nI hi) (nI (6 - f)) := by
  intro f
  induction f with
  | zero =>
    intro lo hi _ h1 h2 h
    exact br_t (Int32.le_refl _) h
  | succ f ih =>
    intro lo hi hf h1 h2 h
    unfold rr_bs at h
    refine br_f (nI_ge (b := 6) (by omega) (by decide)) (pk_le hi lo (fun z => ?_) (fun z => ⟨by decide, nm_r (e' := nI ((lo + hi) / 2)) ?_ ⟨vp_in_nI (N := 24) (by omega) (by omega), ?_⟩⟩))
    · rw [if_pos z] at h; exact h
    · rw [nI_add, show (2 : Int32) = nI 2 from rfl, pk_div (by omega) (by omega) (by omega)]
    · rw [if_neg (by omega)] at h
      rw [nI_clamp (show (lo + hi) / 2 < 2 ^ 31 by omega), hg _ (by omega)]
      have e6 : nI (6 - (f + 1)) + 1 = nI (6 - f) := by rw [nI_1]; congr 1; omega
      refine br_c (fun y => ?_) (fun y => ?_)
      · rw [if_pos y] at h
        exact nm_r e6 (ih lo _ (by omega) (by omega) (by omega) h)
      · rw [if_neg y] at h
        exact nm_r (nI_1 _) (nm_r e6 (ih _ hi (by omega) (by omega) (by omega) h))
theorem rr_findKeepers {post : St2 → Prop} {u : St2} {M k : Nat} {w : Int32} (hS : M ∈ rr_sets) (hG : rr_G M w u) (hk : k < 16) (h : ∀ b9, (∀ j, j < 3 → b9 j = nI (rr_kt M k j)) → post (u.1, u.2.1, u.2.2.1, u.2.2.2.1, u.2.2.2.2.1, u.2.2.2.2.2.1, u.2.2.2.2.2.2.1, u.2.2.2.2.2.2.2.1, u.2.2.2.2.2.2.2.2.1, u.2.2.2.2.2.2.2.2.2.1, u.2.2.2.2.2.2.2.2.2.2.1, u.2.2.2.2.2.2.2.2.2.2.2.1, u.2.2.2.2.2.2.2.2.2.2.2.2.1, u.2.2.2.2.2.2.2.2.2.2.2.2.2.1, u.2.2.2.2.2.2.2.2.2.2.2.2.2.2.1, u.2.2.2.2.2.2.2.2.2.2.2.2.2.2.2.1, u.2.2.2.2.2.2.2.2.2.2.2.2.2.2.2.2.1, b9, u.2.2.2.2.2.2.2.2.2.2.2.2.2.2.2.2.2.2.1, u.2.2.2.2.2.2.2.2.2.2.2.2.2.2.2.2.2.2.2.1, u.2.2.2.2.2.2.2.2.2.2.2.2.2.2.2.2.2.2.2.2)) : wpX_findKeepers post u (nI k) := by
  obtain ⟨u_ms, u_ws, u_rs, u_an, u_ns, u_nv, u_nt, u_mg, u_ll, u_a1, u_a2, u_a3, u_a4, u_a5, u_a6, u_a7, u_a8, u_a9, u_a10, u_a11, u_a12⟩ := u
  unfold wpX_findKeepers
  obtain ⟨g1, g2, g3, g4⟩ := hG
  have F5 := rr_F5 M hS
  have hr' : u_rs = nI (rr_ring M).length := g3
  subst hr'
  have gt := rr_Mt_gt g4
  refine rr_mixed ⟨6 + 1, rr_fk16 (u := (u_ms, u_ws, nI (rr_ring M).length, u_an, u_ns, u_nv, u_nt, u_mg, u_ll, u_a1, u_a2, u_a3, u_a4, u_a5, u_a6, u_a7, u_a8, u_a9, u_a10, u_a11, u_a12)) (N := (rr_ring M).length) (g := fun i => (rr_gt (rr_ring M) i).1) F5.2 (fun i hi => (gt i hi).1) 6 0 _ (by omega) (Nat.zero_le _) (Nat.le_refl _) ⟨(rr_ring M).length + 1, ?_⟩⟩
  have hbs : ∀ f lo hi, lo ≤ hi → hi ≤ 24 → rr_bs (fun i => (rr_gt (rr_ring M) i).1) (rr_mix (nI k)) f lo hi ≤ 24 := by
    intro f
    induction f with
    | zero => intro lo hi a b; exact Nat.le_trans a b
    | succ f ih =>
      intro lo hi a b
      unfold rr_bs
      by_cases c : hi ≤ lo
      · rw [if_pos c]; omega
      · rw [if_neg c]
        by_cases d : rr_mix (nI k) ≤ (fun i => (rr_gt (rr_ring M) i).1) ((lo + hi) / 2)
        · rw [if_pos d]; exact ih _ _ (by omega) (by omega)
        · rw [if_neg d]; exact ih _ _ (by omega) (by omega)
  refine rr_fk75 (u := (u_ms, u_ws, nI (rr_ring M).length, u_an, u_ns, u_nv, u_nt, u_mg, u_ll, u_a1, u_a2, u_a3, u_a4, u_a5, u_a6, u_a7, u_a8, u_a9, u_a10, u_a11, u_a12)) (N := (rr_ring M).length) (o := fun i => (rr_gt (rr_ring M) i).2) rfl F5.1 F5.2 (hbs _ _ _ (Nat.zero_le _) F5.2) (fun i hi => (gt i hi).2) (rr_F5b M hS) (rr_ring M).length 0 0 [] u_a9 (by omega) (by simp) (fun j hj => absurd hj (by simp)) (fun b9 h9 => h b9 (fun j hj => ?_))
  have F2 : rr_sk (fun i => (rr_gt (rr_ring M) i).2) (rr_bs (fun i => (rr_gt (rr_ring M) i).1) (rr_mix (nI k)) 6 0 (rr_ring M).length) (rr_ring M).length (rr_ring M).length 0 0 [] = [nI (rr_kt M k 0), nI (rr_kt M k 1), nI (rr_kt M k 2)] := rr_F2 M hS k hk
  rw [F2] at h9
  have y := h9 j hj
  rw [y]
  match j, hj with
  | 0, _ => rfl
  | 1, _ => rfl
  | 2, _ => rfl
theorem rr_keeps {post : Int32 → St2 → Prop} {u : St2} {M m k : Nat} {w : Int32} (hS : M ∈ rr_sets) (hG : rr_G M w u) (hm : m < 6) (hk : k < 16) (h1 : ∀ b9, rr_kp M m k → post 1 (u.1, u.2.1, u.2.2.1, u.2.2.2.1, u.2.2.2.2.1, u.2.2.2.2.2.1, u.2.2.2.2.2.2.1, u.2.2.2.2.2.2.2.1, u.2.2.2.2.2.2.2.2.1, u.2.2.2.2.2.2.2.2.2.1, u.2.2.2.2.2.2.2.2.2.2.1, u.2.2.2.2.2.2.2.2.2.2.2.1, u.2.2.2.2.2.2.2.2.2.2.2.2.1, u.2.2.2.2.2.2.2.2.2.2.2.2.2.1, u.2.2.2.2.2.2.2.2.2.2.2.2.2.2.1, u.2.2.2.2.2.2.2.2.2.2.2.2.2.2.2.1, u.2.2.2.2.2.2.2.2.2.2.2.2.2.2.2.2.1, b9, u.2.2.2.2.2.2.2.2.2.2.2.2.2.2.2.2.2.2.1, u.2.2.2.2.2.2.2.2.2.2.2.2.2.2.2.2.2.2.2.1, u.2.2.2.2.2.2.2.2.2.2.2.2.2.2.2.2.2.2.2.2)) (h0 : ∀ b9, ¬ rr_kp M m k → post 0 (u.1, u.2.1, u.2.2.1, u.2.2.2.1, u.2.2.2.2.1, u.2.2.2.2.2.1, u.2.2.2.2.2.2.1, u.2.2.2.2.2.2.2.1, u.2.2.2.2.2.2.2.2.1, u.2.2.2.2.2.2.2.2.2.1, u.2.2.2.2.2.2.2.2.2.2.1, u.2.2.2.2.2.2.2.2.2.2.2.1, u.2.2.2.2.2.2.2.2.2.2.2.2.1, u.2.2.2.2.2.2.2.2.2.2.2.2.2.1, u.2.2.2.2.2.2.2.2.2.2.2.2.2.2.1, u.2.2.2.2.2.2.2.2.2.2.2.2.2.2.2.1, u.2.2.2.2.2.2.2.2.2.2.2.2.2.2.2.2.1, b9, u.2.2.2.2.2.2.2.2.2.2.2.2.2.2.2.2.2.2.1, u.2.2.2.2.2.2.2.2.2.2.2.2.2.2.2.2.2.2.2.1, u.2.2.2.2.2.2.2.2.2.2.2.2.2.2.2.2.2.2.2.2)) : wpX_keeps post u (nI m) (nI k) := by
  obtain ⟨u_ms, u_ws, u_rs, u_an, u_ns, u_nv, u_nt, u_mg, u_ll, u_a1, u_a2, u_a3, u_a4, u_a5, u_a6, u_a7, u_a8, u_a9, u_a10, u_a11, u_a12⟩ := u
  unfold wpX_keeps
  refine rr_findKeepers (u := (u_ms, u_ws, u_rs, u_an, u_ns, u_nv, u_nt, u_mg, u_ll, u_a1, u_a2, u_a3, u_a4, u_a5, u_a6, u_a7, u_a8, u_a9, u_a10, u_a11, u_a12)) hS hG hk (fun b9 h9 => ?_)
  have F3 := rr_F3 M hS k hk
  have l0 := (F3 0 (by omega)).1
  have l1 := (F3 1 (by omega)).1
  have l2 := (F3 2 (by omega)).1
  refine pk_eq (rr_kt M k 0) m (fun z => h1 b9 ⟨0, by omega, z⟩) (fun z0 => pk_eq (rr_kt M k 1) m (fun z => h1 b9 ⟨1, by omega, z⟩) (fun z1 => pk_eq (rr_kt M k 2) m (fun z => h1 b9 ⟨2, by omega, z⟩) (fun z2 => h0 b9 ?_) (h9 2 (by omega))) (h9 1 (by omega))) (h9 0 (by omega))
  intro ⟨j, hj, e⟩
  match j, hj with
  | 0, _ => exact z0 e
  | 1, _ => exact z1 e
  | 2, _ => exact z2 e
theorem rr_fk75b {post : St2 → Prop} {u : St2} {lo N : Nat} {o : Nat → Int32} (hr : u.2.2.1 = nI N) (hN : 0 < N) (hN2 : N ≤ 24) (hlo : lo ≤ 24) (ho : ∀ i, i < N → u.2.2.2.2.2.2.2.2.2.2.1 i = o i) (hb : ∀ i, i < 24 → (o i).toInt8.toInt32 = o i) :
    ∀ f i st (ks : List Int32) a9, i + f = N → ks.length ≤ 3 → (∀ j, j < ks.length → a9 j = ks.getD j 0) →
    (∀ b9, (∀ j, j < (rr_sk o lo N f i st ks).length → b9 j = (rr_sk o lo N f i st ks).getD j 0) → post (u.1, u.2.1, u.2.2.1, u.2.2.2.1, u.2.2.2.2.1, u.2.2.2.2.2.1, u.2.2.2.2.2.2.1, u.2.2.2.2.2.2.2.1, u.2.2.2.2.2.2.2.2.1, u.2.2.2.2.2.2.2.2.2.1, u.2.2.2.2.2.2.2.2.2.2.1, u.2.2.2.2.2.2.2.2.2.2.2.1, u.2.2.2.2.2.2.2.2.2.2.2.2.1, u.2.2.2.2.2.2.2.2.2.2.2.2.2.1, u.2.2.2.2.2.2.2.2.2.2.2.2.2.2.1, u.2.2.2.2.2.2.2.2.2.2.2.2.2.2.2.1, u.2.2.2.2.2.2.2.2.2.2.2.2.2.2.2.2.1, b9, u.2.2.2.2.2.2.2.2.2.2.2.2.2.2.2.2.2.2.1, u.2.2.2.2.2.2.2.2.2.2.2.2.2.2.2.2.2.2.2.1, u.2.2.2.2.2.2.2.2.2.2.2.2.2.2.2.2.2.2.2.2)) →
    wX_findKeepers_2_75 post (nI lo) u.1 u.2.1 u.2.2.1 u.2.2.2.1 u.2.2.2.2.1 u.2.2.2.2.2.1 u.2.2.2.2.2.2.1 u.2.2.2.2.2.2.2.1 u.2.2.2.2.2.2.2.2.1 (f + 1) (nI ks.length) st (nI i) u.2.2.2.2.2.2.2.2.2.1 u.2.2.2.2.2.2.2.2.2.2.1 u.2.2.2.2.2.2.2.2.2.2.2.1 u.2.2.2.2.2.2.2.2.2.2.2.2.1 u.2.2.2.2.2.2.2.2.2.2.2.2.2.1 u.2.2.2.2.2.2.2.2.2.2.2.2.2.2.1 u.2.2.2.2.2.2.2.2.2.2.2.2.2.2.2.1 u.2.2.2.2.2.2.2.2.2.2.2.2.2.2.2.2.1 a9 u.2.2.2.2.2.2.2.2.2.2.2.2.2.2.2.2.2.2.1 u.2.2.2.2.2.2.2.2.2.2.2.2.2.2.2.2.2.2.2.1 u.2.2.2.2.2.2.2.2.2.2.2.2.2.2.2.2.2.2.2.2 := by
  intro f
  induction f with
  | zero =>
    intro i st ks a9 hi hk h9 h
    have hi' : i = N := by omega
    subst hi'
    exact br_t (by rw [hr]; exact Int32.le_refl _) (h a9 h9)
  | succ f ih =>
    intro i st ks a9 hi hk h9 h
    have e1 : (nI lo + nI i) - (nI lo + nI i) / u.2.2.1 * u.2.2.1 = nI ((lo + i) % N) := by
      rw [hr, nI_add, pk_rem (by omega) hN (by omega)]
    have hx : (lo + i) % N < N := Nat.mod_lt _ hN
    unfold rr_sk at h
    refine br_f (by rw [hr]; exact nI_ge (by omega) (by omega)) (pk_le 3 ks.length (fun z => h a9 ?_) (fun z => ⟨by rw [hr]; exact nI_ne0 hN (by omega), ?_⟩))
    · rw [if_pos z]; exact h9
    · rw [if_neg (by omega)] at h
      rw [e1, nI_clamp (show (lo + i) % N < 2 ^ 31 by omega), ho _ hx]
      refine ⟨vp_in_nI (N := 24) (by omega) (by omega), nm_e (br_c (fun y => ?_) (fun y => ?_))⟩
      · rw [if_pos y] at h
        refine nm_e ⟨pk_in ks.length 3 (by omega), nm_r (e' := upd a9 ks.length (o ((lo + i) % N))) ?_ (nm_r (nI_1 _) (nm_r (nI_1 i) ?_))⟩
        · rw [nI_clamp (show ks.length < 2 ^ 31 by omega), hb _ (by omega)]
        · have el : (ks ++ [o ((lo + i) % N)]).length = ks.length + 1 := by simp
          have w := ih (i + 1) (st ||| ((1 : Int32) <<< (o ((lo + i) % N) &&& 31))) (ks ++ [o ((lo + i) % N)]) (upd a9 ks.length (o ((lo + i) % N))) (by omega) (by omega) (fun j hj => ?_) h
          · rw [el] at w; exact w
          · rw [el] at hj
            by_cases e : j = ks.length
            · rw [e, pk_us]; simp
            · rw [pk_un e, h9 j (by omega)]
              rw [List.getD_eq_getElem?_getD, List.getD_eq_getElem?_getD, List.getElem?_append_left (by omega)]
      · rw [if_neg y] at h
        exact nm_r (nI_1 i) (ih (i + 1) st ks a9 (by omega) hk h9 h)
theorem rr_fk16b {post : St2 → Prop} {u : St2} {N : Nat} {p : Int32} {g : Nat → Int32} (hN2 : N ≤ 24) (hg : ∀ i, i < N → u.2.2.2.2.2.2.2.2.2.1 i = g i) :
    ∀ f lo hi, f ≤ 6 → lo ≤ hi → hi ≤ N → (∃ fu, wX_findKeepers_2_75 post (nI (rr_bs g p f lo hi)) u.1 u.2.1 u.2.2.1 u.2.2.2.1 u.2.2.2.2.1 u.2.2.2.2.2.1 u.2.2.2.2.2.2.1 u.2.2.2.2.2.2.2.1 u.2.2.2.2.2.2.2.2.1 fu 0 0 0 u.2.2.2.2.2.2.2.2.2.1 u.2.2.2.2.2.2.2.2.2.2.1 u.2.2.2.2.2.2.2.2.2.2.2.1 u.2.2.2.2.2.2.2.2.2.2.2.2.1 u.2.2.2.2.2.2.2.2.2.2.2.2.2.1 u.2.2.2.2.2.2.2.2.2.2.2.2.2.2.1 u.2.2.2.2.2.2.2.2.2.2.2.2.2.2.2.1 u.2.2.2.2.2.2.2.2.2.2.2.2.2.2.2.2.1 u.2.2.2.2.2.2.2.2.2.2.2.2.2.2.2.2.2.1 u.2.2.2.2.2.2.2.2.2.2.2.2.2.2.2.2.2.2.1 u.2.2.2.2.2.2.2.2.2.2.2.2.2.2.2.2.2.2.2.1 u.2.2.2.2.2.2.2.2.2.2.2.2.2.2.2.2.2.2.2.2) → wX_findKeepers_2_16 post p u.1 u.2.1 u.2.2.1 u.2.2.2.1 u.2.2.2.2.1 u.2.2.2.2.2.1 u.2.2.2.2.2.2.1 u.2.2.2.2.2.2.2.1 u.2.2.2.2.2.2.2.2.1 u.2.2.2.2.2.2.2.2.2.1 u.2.2.2.2.2.2.2.2.2.2.1 u.2.2.2.2.2.2.2.2.2.2.2.1 u.2.2.2.2.2.2.2.2.2.2.2.2.1 u.2.2.2.2.2.2.2.2.2.2.2.2.2.1 u.2.2.2.2.2.2.2.2.2.2.2.2.2.2.1 u.2.2.2.2.2.2.2.2.2.2.2.2.2.2.2.1 u.2.2.2.2.2.2.2.2.2.2.2.2.2.2.2.2.1 u.2.2.2.2.2.2.2.2.2.2.2.2.2.2.2.2.2.1 u.2.2.2.2.2.2.2.2.2.2.2.2.2.2.2.2.2.2.1 u.2.2.2.2.2.2.2.2.2.2.2.2.2.2.2.2.2.2.2.1 u.2.2.2.2.2.2.2.2.2.2.2.2.2.2.2.2.2.2.2.2 (f + 1) (nI lo) (nI hi) (nI (6 - f)) := by
  intro f
  induction f with
  | zero =>
    intro lo hi _ h1 h2 h
    exact br_t (Int32.le_refl _) h
  | succ f ih =>
    intro lo hi hf h1 h2 h
    unfold rr_bs at h
    refine br_f (nI_ge (b := 6) (by omega) (by decide)) (pk_le hi lo (fun z => ?_) (fun z => ⟨by decide, nm_r (e' := nI ((lo + hi) / 2)) ?_ ⟨vp_in_nI (N := 24) (by omega) (by omega), ?_⟩⟩))
    · rw [if_pos z] at h; exact h
    · rw [nI_add, show (2 : Int32) = nI 2 from rfl, pk_div (by omega) (by omega) (by omega)]
    · rw [if_neg (by omega)] at h
      rw [nI_clamp (show (lo + hi) / 2 < 2 ^ 31 by omega), hg _ (by omega)]
      have e6 : nI (6 - (f + 1)) + 1 = nI (6 - f) := by rw [nI_1]; congr 1; omega
      refine br_c (fun y => ?_) (fun y => ?_)
      · rw [if_pos y] at h
        exact nm_r e6 (ih lo _ (by omega) (by omega) (by omega) h)
      · rw [if_neg y] at h
        exact nm_r (nI_1 _) (nm_r e6 (ih _ hi (by omega) (by omega) (by omega) h))
theorem rr_findKeepersb {post : St2 → Prop} {u : St2} {M k : Nat} {w : Int32} (hS : M ∈ rr_sets) (hG : rr_G M w u) (hk : k < 16) (h : ∀ b9, (∀ j, j < 3 → b9 j = nI (rr_kt M k j)) → post (u.1, u.2.1, u.2.2.1, u.2.2.2.1, u.2.2.2.2.1, u.2.2.2.2.2.1, u.2.2.2.2.2.2.1, u.2.2.2.2.2.2.2.1, u.2.2.2.2.2.2.2.2.1, u.2.2.2.2.2.2.2.2.2.1, u.2.2.2.2.2.2.2.2.2.2.1, u.2.2.2.2.2.2.2.2.2.2.2.1, u.2.2.2.2.2.2.2.2.2.2.2.2.1, u.2.2.2.2.2.2.2.2.2.2.2.2.2.1, u.2.2.2.2.2.2.2.2.2.2.2.2.2.2.1, u.2.2.2.2.2.2.2.2.2.2.2.2.2.2.2.1, u.2.2.2.2.2.2.2.2.2.2.2.2.2.2.2.2.1, b9, u.2.2.2.2.2.2.2.2.2.2.2.2.2.2.2.2.2.2.1, u.2.2.2.2.2.2.2.2.2.2.2.2.2.2.2.2.2.2.2.1, u.2.2.2.2.2.2.2.2.2.2.2.2.2.2.2.2.2.2.2.2)) : wpX_findKeepers_2 post u (nI k) := by
  obtain ⟨u_ms, u_ws, u_rs, u_an, u_ns, u_nv, u_nt, u_mg, u_ll, u_a1, u_a2, u_a3, u_a4, u_a5, u_a6, u_a7, u_a8, u_a9, u_a10, u_a11, u_a12⟩ := u
  unfold wpX_findKeepers_2
  obtain ⟨g1, g2, g3, g4⟩ := hG
  have F5 := rr_F5 M hS
  have hr' : u_rs = nI (rr_ring M).length := g3
  subst hr'
  have gt := rr_Mt_gt g4
  refine rr_mixed ⟨6 + 1, rr_fk16b (u := (u_ms, u_ws, nI (rr_ring M).length, u_an, u_ns, u_nv, u_nt, u_mg, u_ll, u_a1, u_a2, u_a3, u_a4, u_a5, u_a6, u_a7, u_a8, u_a9, u_a10, u_a11, u_a12)) (N := (rr_ring M).length) (g := fun i => (rr_gt (rr_ring M) i).1) F5.2 (fun i hi => (gt i hi).1) 6 0 _ (by omega) (Nat.zero_le _) (Nat.le_refl _) ⟨(rr_ring M).length + 1, ?_⟩⟩
  have hbs : ∀ f lo hi, lo ≤ hi → hi ≤ 24 → rr_bs (fun i => (rr_gt (rr_ring M) i).1) (rr_mix (nI k)) f lo hi ≤ 24 := by
    intro f
    induction f with
    | zero => intro lo hi a b; exact Nat.le_trans a b
    | succ f ih =>
      intro lo hi a b
      unfold rr_bs
      by_cases c : hi ≤ lo
      · rw [if_pos c]; omega
      · rw [if_neg c]
        by_cases d : rr_mix (nI k) ≤ (fun i => (rr_gt (rr_ring M) i).1) ((lo + hi) / 2)
        · rw [if_pos d]; exact ih _ _ (by omega) (by omega)
        · rw [if_neg d]; exact ih _ _ (by omega) (by omega)
  refine rr_fk75b (u := (u_ms, u_ws, nI (rr_ring M).length, u_an, u_ns, u_nv, u_nt, u_mg, u_ll, u_a1, u_a2, u_a3, u_a4, u_a5, u_a6, u_a7, u_a8, u_a9, u_a10, u_a11, u_a12)) (N := (rr_ring M).length) (o := fun i => (rr_gt (rr_ring M) i).2) rfl F5.1 F5.2 (hbs _ _ _ (Nat.zero_le _) F5.2) (fun i hi => (gt i hi).2) (rr_F5b M hS) (rr_ring M).length 0 0 [] u_a9 (by omega) (by simp) (fun j hj => absurd hj (by simp)) (fun b9 h9 => h b9 (fun j hj => ?_))
  have F2 : rr_sk (fun i => (rr_gt (rr_ring M) i).2) (rr_bs (fun i => (rr_gt (rr_ring M) i).1) (rr_mix (nI k)) 6 0 (rr_ring M).length) (rr_ring M).length (rr_ring M).length 0 0 [] = [nI (rr_kt M k 0), nI (rr_kt M k 1), nI (rr_kt M k 2)] := rr_F2 M hS k hk
  rw [F2] at h9
  have y := h9 j hj
  rw [y]
  match j, hj with
  | 0, _ => rfl
  | 1, _ => rfl
  | 2, _ => rfl
theorem rr_keepsb {post : Int32 → St2 → Prop} {u : St2} {M m k : Nat} {w : Int32} (hS : M ∈ rr_sets) (hG : rr_G M w u) (hm : m < 6) (hk : k < 16) (h1 : ∀ b9, rr_kp M m k → post 1 (u.1, u.2.1, u.2.2.1, u.2.2.2.1, u.2.2.2.2.1, u.2.2.2.2.2.1, u.2.2.2.2.2.2.1, u.2.2.2.2.2.2.2.1, u.2.2.2.2.2.2.2.2.1, u.2.2.2.2.2.2.2.2.2.1, u.2.2.2.2.2.2.2.2.2.2.1, u.2.2.2.2.2.2.2.2.2.2.2.1, u.2.2.2.2.2.2.2.2.2.2.2.2.1, u.2.2.2.2.2.2.2.2.2.2.2.2.2.1, u.2.2.2.2.2.2.2.2.2.2.2.2.2.2.1, u.2.2.2.2.2.2.2.2.2.2.2.2.2.2.2.1, u.2.2.2.2.2.2.2.2.2.2.2.2.2.2.2.2.1, b9, u.2.2.2.2.2.2.2.2.2.2.2.2.2.2.2.2.2.2.1, u.2.2.2.2.2.2.2.2.2.2.2.2.2.2.2.2.2.2.2.1, u.2.2.2.2.2.2.2.2.2.2.2.2.2.2.2.2.2.2.2.2)) (h0 : ∀ b9, ¬ rr_kp M m k → post 0 (u.1, u.2.1, u.2.2.1, u.2.2.2.1, u.2.2.2.2.1, u.2.2.2.2.2.1, u.2.2.2.2.2.2.1, u.2.2.2.2.2.2.2.1, u.2.2.2.2.2.2.2.2.1, u.2.2.2.2.2.2.2.2.2.1, u.2.2.2.2.2.2.2.2.2.2.1, u.2.2.2.2.2.2.2.2.2.2.2.1, u.2.2.2.2.2.2.2.2.2.2.2.2.1, u.2.2.2.2.2.2.2.2.2.2.2.2.2.1, u.2.2.2.2.2.2.2.2.2.2.2.2.2.2.1, u.2.2.2.2.2.2.2.2.2.2.2.2.2.2.2.1, u.2.2.2.2.2.2.2.2.2.2.2.2.2.2.2.2.1, b9, u.2.2.2.2.2.2.2.2.2.2.2.2.2.2.2.2.2.2.1, u.2.2.2.2.2.2.2.2.2.2.2.2.2.2.2.2.2.2.2.1, u.2.2.2.2.2.2.2.2.2.2.2.2.2.2.2.2.2.2.2.2)) : wpX_keeps_2 post u (nI m) (nI k) := by
  obtain ⟨u_ms, u_ws, u_rs, u_an, u_ns, u_nv, u_nt, u_mg, u_ll, u_a1, u_a2, u_a3, u_a4, u_a5, u_a6, u_a7, u_a8, u_a9, u_a10, u_a11, u_a12⟩ := u
  unfold wpX_keeps_2
  refine rr_findKeepersb (u := (u_ms, u_ws, u_rs, u_an, u_ns, u_nv, u_nt, u_mg, u_ll, u_a1, u_a2, u_a3, u_a4, u_a5, u_a6, u_a7, u_a8, u_a9, u_a10, u_a11, u_a12)) hS hG hk (fun b9 h9 => ?_)
  have F3 := rr_F3 M hS k hk
  have l0 := (F3 0 (by omega)).1
  have l1 := (F3 1 (by omega)).1
  have l2 := (F3 2 (by omega)).1
  refine pk_eq (rr_kt M k 0) m (fun z => h1 b9 ⟨0, by omega, z⟩) (fun z0 => pk_eq (rr_kt M k 1) m (fun z => h1 b9 ⟨1, by omega, z⟩) (fun z1 => pk_eq (rr_kt M k 2) m (fun z => h1 b9 ⟨2, by omega, z⟩) (fun z2 => h0 b9 ?_) (h9 2 (by omega))) (h9 1 (by omega))) (h9 0 (by omega))
  intro ⟨j, hj, e⟩
  match j, hj with
  | 0, _ => exact z0 e
  | 1, _ => exact z1 e
  | 2, _ => exact z2 e
theorem rr_fk75c {post : St2 → Prop} {u : St2} {lo N : Nat} {o : Nat → Int32} (hr : u.2.2.1 = nI N) (hN : 0 < N) (hN2 : N ≤ 24) (hlo : lo ≤ 24) (ho : ∀ i, i < N → u.2.2.2.2.2.2.2.2.2.2.1 i = o i) (hb : ∀ i, i < 24 → (o i).toInt8.toInt32 = o i) :
    ∀ f i st (ks : List Int32) a9, i + f = N → ks.length ≤ 3 → (∀ j, j < ks.length → a9 j = ks.getD j 0) →
    (∀ b9, (∀ j, j < (rr_sk o lo N f i st ks).length → b9 j = (rr_sk o lo N f i st ks).getD j 0) → post (u.1, u.2.1, u.2.2.1, u.2.2.2.1, u.2.2.2.2.1, u.2.2.2.2.2.1, u.2.2.2.2.2.2.1, u.2.2.2.2.2.2.2.1, u.2.2.2.2.2.2.2.2.1, u.2.2.2.2.2.2.2.2.2.1, u.2.2.2.2.2.2.2.2.2.2.1, u.2.2.2.2.2.2.2.2.2.2.2.1, u.2.2.2.2.2.2.2.2.2.2.2.2.1, u.2.2.2.2.2.2.2.2.2.2.2.2.2.1, u.2.2.2.2.2.2.2.2.2.2.2.2.2.2.1, u.2.2.2.2.2.2.2.2.2.2.2.2.2.2.2.1, u.2.2.2.2.2.2.2.2.2.2.2.2.2.2.2.2.1, b9, u.2.2.2.2.2.2.2.2.2.2.2.2.2.2.2.2.2.2.1, u.2.2.2.2.2.2.2.2.2.2.2.2.2.2.2.2.2.2.2.1, u.2.2.2.2.2.2.2.2.2.2.2.2.2.2.2.2.2.2.2.2)) →
    wX_findKeepers_3_75 post (nI lo) u.1 u.2.1 u.2.2.1 u.2.2.2.1 u.2.2.2.2.1 u.2.2.2.2.2.1 u.2.2.2.2.2.2.1 u.2.2.2.2.2.2.2.1 u.2.2.2.2.2.2.2.2.1 (f + 1) (nI ks.length) st (nI i) u.2.2.2.2.2.2.2.2.2.1 u.2.2.2.2.2.2.2.2.2.2.1 u.2.2.2.2.2.2.2.2.2.2.2.1 u.2.2.2.2.2.2.2.2.2.2.2.2.1 u.2.2.2.2.2.2.2.2.2.2.2.2.2.1 u.2.2.2.2.2.2.2.2.2.2.2.2.2.2.1 u.2.2.2.2.2.2.2.2.2.2.2.2.2.2.2.1 u.2.2.2.2.2.2.2.2.2.2.2.2.2.2.2.2.1 a9 u.2.2.2.2.2.2.2.2.2.2.2.2.2.2.2.2.2.2.1 u.2.2.2.2.2.2.2.2.2.2.2.2.2.2.2.2.2.2.2.1 u.2.2.2.2.2.2.2.2.2.2.2.2.2.2.2.2.2.2.2.2 := by
  intro f
  induction f with
  | zero =>
    intro i st ks a9 hi hk h9 h
    have hi' : i = N := by omega
    subst hi'
    exact br_t (by rw [hr]; exact Int32.le_refl _) (h a9 h9)
  | succ f ih =>
    intro i st ks a9 hi hk h9 h
    have e1 : (nI lo + nI i) - (nI lo + nI i) / u.2.2.1 * u.2.2.1 = nI ((lo + i) % N) := by
      rw [hr, nI_add, pk_rem (by omega) hN (by omega)]
    have hx : (lo + i) % N < N := Nat.mod_lt _ hN
    unfold rr_sk at h
    refine br_f (by rw [hr]; exact nI_ge (by omega) (by omega)) (pk_le 3 ks.length (fun z => h a9 ?_) (fun z => ⟨by rw [hr]; exact nI_ne0 hN (by omega), ?_⟩))
    · rw [if_pos z]; exact h9
    · rw [if_neg (by omega)] at h
      rw [e1, nI_clamp (show (lo + i) % N < 2 ^ 31 by omega), ho _ hx]
      refine ⟨vp_in_nI (N := 24) (by omega) (by omega), nm_e (br_c (fun y => ?_) (fun y => ?_))⟩
      · rw [if_pos y] at h
        refine nm_e ⟨pk_in ks.length 3 (by omega), nm_r (e' := upd a9 ks.length (o ((lo + i) % N))) ?_ (nm_r (nI_1 _) (nm_r (nI_1 i) ?_))⟩
        · rw [nI_clamp (show ks.length < 2 ^ 31 by omega), hb _ (by omega)]
        · have el : (ks ++ [o ((lo + i) % N)]).length = ks.length + 1 := by simp
          have w := ih (i + 1) (st ||| ((1 : Int32) <<< (o ((lo + i) % N) &&& 31))) (ks ++ [o ((lo + i) % N)]) (upd a9 ks.length (o ((lo + i) % N))) (by omega) (by omega) (fun j hj => ?_) h
          · rw [el] at w; exact w
          · rw [el] at hj
            by_cases e : j = ks.length
            · rw [e, pk_us]; simp
            · rw [pk_un e, h9 j (by omega)]
              rw [List.getD_eq_getElem?_getD, List.getD_eq_getElem?_getD, List.getElem?_append_left (by omega)]
      · rw [if_neg y] at h
        exact nm_r (nI_1 i) (ih (i + 1) st ks a9 (by omega) hk h9 h)
theorem rr_fk16c {post : St2 → Prop} {u : St2} {N : Nat} {p : Int32} {g : Nat → Int32} (hN2 : N ≤ 24) (hg : ∀ i, i < N → u.2.2.2.2.2.2.2.2.2.1 i = g i) :
    ∀ f lo hi, f ≤ 6 → lo ≤ hi → hi ≤ N → (∃ fu, wX_findKeepers_3_75 post (nI (rr_bs g p f lo hi)) u.1 u.2.1 u.2.2.1 u.2.2.2.1 u.2.2.2.2.1 u.2.2.2.2.2.1 u.2.2.2.2.2.2.1 u.2.2.2.2.2.2.2.1 u.2.2.2.2.2.2.2.2.1 fu 0 0 0 u.2.2.2.2.2.2.2.2.2.1 u.2.2.2.2.2.2.2.2.2.2.1 u.2.2.2.2.2.2.2.2.2.2.2.1 u.2.2.2.2.2.2.2.2.2.2.2.2.1 u.2.2.2.2.2.2.2.2.2.2.2.2.2.1 u.2.2.2.2.2.2.2.2.2.2.2.2.2.2.1 u.2.2.2.2.2.2.2.2.2.2.2.2.2.2.2.1 u.2.2.2.2.2.2.2.2.2.2.2.2.2.2.2.2.1 u.2.2.2.2.2.2.2.2.2.2.2.2.2.2.2.2.2.1 u.2.2.2.2.2.2.2.2.2.2.2.2.2.2.2.2.2.2.1 u.2.2.2.2.2.2.2.2.2.2.2.2.2.2.2.2.2.2.2.1 u.2.2.2.2.2.2.2.2.2.2.2.2.2.2.2.2.2.2.2.2) → wX_findKeepers_3_16 post p u.1 u.2.1 u.2.2.1 u.2.2.2.1 u.2.2.2.2.1 u.2.2.2.2.2.1 u.2.2.2.2.2.2.1 u.2.2.2.2.2.2.2.1 u.2.2.2.2.2.2.2.2.1 u.2.2.2.2.2.2.2.2.2.1 u.2.2.2.2.2.2.2.2.2.2.1 u.2.2.2.2.2.2.2.2.2.2.2.1 u.2.2.2.2.2.2.2.2.2.2.2.2.1 u.2.2.2.2.2.2.2.2.2.2.2.2.2.1 u.2.2.2.2.2.2.2.2.2.2.2.2.2.2.1 u.2.2.2.2.2.2.2.2.2.2.2.2.2.2.2.1 u.2.2.2.2.2.2.2.2.2.2.2.2.2.2.2.2.1 u.2.2.2.2.2.2.2.2.2.2.2.2.2.2.2.2.2.1 u.2.2.2.2.2.2.2.2.2.2.2.2.2.2.2.2.2.2.1 u.2.2.2.2.2.2.2.2.2.2.2.2.2.2.2.2.2.2.2.1 u.2.2.2.2.2.2.2.2.2.2.2.2.2.2.2.2.2.2.2.2 (f + 1) (nI lo) (nI hi) (nI (6 - f)) := by
  intro f
  induction f with
  | zero =>
    intro lo hi _ h1 h2 h
    exact br_t (Int32.le_refl _) h
  | succ f ih =>
    intro lo hi hf h1 h2 h
    unfold rr_bs at h
    refine br_f (nI_ge (b := 6) (by omega) (by decide)) (pk_le hi lo (fun z => ?_) (fun z => ⟨by decide, nm_r (e' := nI ((lo + hi) / 2)) ?_ ⟨vp_in_nI (N := 24) (by omega) (by omega), ?_⟩⟩))
    · rw [if_pos z] at h; exact h
    · rw [nI_add, show (2 : Int32) = nI 2 from rfl, pk_div (by omega) (by omega) (by omega)]
    · rw [if_neg (by omega)] at h
      rw [nI_clamp (show (lo + hi) / 2 < 2 ^ 31 by omega), hg _ (by omega)]
      have e6 : nI (6 - (f + 1)) + 1 = nI (6 - f) := by rw [nI_1]; congr 1; omega
      refine br_c (fun y => ?_) (fun y => ?_)
      · rw [if_pos y] at h
        exact nm_r e6 (ih lo _ (by omega) (by omega) (by omega) h)
      · rw [if_neg y] at h
        exact nm_r (nI_1 _) (nm_r e6 (ih _ hi (by omega) (by omega) (by omega) h))
theorem rr_findKeepersc {post : St2 → Prop} {u : St2} {M k : Nat} {w : Int32} (hS : M ∈ rr_sets) (hG : rr_G M w u) (hk : k < 16) (h : ∀ b9, (∀ j, j < 3 → b9 j = nI (rr_kt M k j)) → post (u.1, u.2.1, u.2.2.1, u.2.2.2.1, u.2.2.2.2.1, u.2.2.2.2.2.1, u.2.2.2.2.2.2.1, u.2.2.2.2.2.2.2.1, u.2.2.2.2.2.2.2.2.1, u.2.2.2.2.2.2.2.2.2.1, u.2.2.2.2.2.2.2.2.2.2.1, u.2.2.2.2.2.2.2.2.2.2.2.1, u.2.2.2.2.2.2.2.2.2.2.2.2.1, u.2.2.2.2.2.2.2.2.2.2.2.2.2.1, u.2.2.2.2.2.2.2.2.2.2.2.2.2.2.1, u.2.2.2.2.2.2.2.2.2.2.2.2.2.2.2.1, u.2.2.2.2.2.2.2.2.2.2.2.2.2.2.2.2.1, b9, u.2.2.2.2.2.2.2.2.2.2.2.2.2.2.2.2.2.2.1, u.2.2.2.2.2.2.2.2.2.2.2.2.2.2.2.2.2.2.2.1, u.2.2.2.2.2.2.2.2.2.2.2.2.2.2.2.2.2.2.2.2)) : wpX_findKeepers_3 post u (nI k) := by
  obtain ⟨u_ms, u_ws, u_rs, u_an, u_ns, u_nv, u_nt, u_mg, u_ll, u_a1, u_a2, u_a3, u_a4, u_a5, u_a6, u_a7, u_a8, u_a9, u_a10, u_a11, u_a12⟩ := u
  unfold wpX_findKeepers_3
  obtain ⟨g1, g2, g3, g4⟩ := hG
  have F5 := rr_F5 M hS
  have hr' : u_rs = nI (rr_ring M).length := g3
  subst hr'
  have gt := rr_Mt_gt g4
  refine rr_mixed ⟨6 + 1, rr_fk16c (u := (u_ms, u_ws, nI (rr_ring M).length, u_an, u_ns, u_nv, u_nt, u_mg, u_ll, u_a1, u_a2, u_a3, u_a4, u_a5, u_a6, u_a7, u_a8, u_a9, u_a10, u_a11, u_a12)) (N := (rr_ring M).length) (g := fun i => (rr_gt (rr_ring M) i).1) F5.2 (fun i hi => (gt i hi).1) 6 0 _ (by omega) (Nat.zero_le _) (Nat.le_refl _) ⟨(rr_ring M).length + 1, ?_⟩⟩
  have hbs : ∀ f lo hi, lo ≤ hi → hi ≤ 24 → rr_bs (fun i => (rr_gt (rr_ring M) i).1) (rr_mix (nI k)) f lo hi ≤ 24 := by
    intro f
    induction f with
    | zero => intro lo hi a b; exact Nat.le_trans a b
    | succ f ih =>
      intro lo hi a b
      unfold rr_bs
      by_cases c : hi ≤ lo
      · rw [if_pos c]; omega
      · rw [if_neg c]
        by_cases d : rr_mix (nI k) ≤ (fun i => (rr_gt (rr_ring M) i).1) ((lo + hi) / 2)
        · rw [if_pos d]; exact ih _ _ (by omega) (by omega)
        · rw [if_neg d]; exact ih _ _ (by omega) (by omega)
  refine rr_fk75c (u := (u_ms, u_ws, nI (rr_ring M).length, u_an, u_ns, u_nv, u_nt, u_mg, u_ll, u_a1, u_a2, u_a3, u_a4, u_a5, u_a6, u_a7, u_a8, u_a9, u_a10, u_a11, u_a12)) (N := (rr_ring M).length) (o := fun i => (rr_gt (rr_ring M) i).2) rfl F5.1 F5.2 (hbs _ _ _ (Nat.zero_le _) F5.2) (fun i hi => (gt i hi).2) (rr_F5b M hS) (rr_ring M).length 0 0 [] u_a9 (by omega) (by simp) (fun j hj => absurd hj (by simp)) (fun b9 h9 => h b9 (fun j hj => ?_))
  have F2 : rr_sk (fun i => (rr_gt (rr_ring M) i).2) (rr_bs (fun i => (rr_gt (rr_ring M) i).1) (rr_mix (nI k)) 6 0 (rr_ring M).length) (rr_ring M).length (rr_ring M).length 0 0 [] = [nI (rr_kt M k 0), nI (rr_kt M k 1), nI (rr_kt M k 2)] := rr_F2 M hS k hk
  rw [F2] at h9
  have y := h9 j hj
  rw [y]
  match j, hj with
  | 0, _ => rfl
  | 1, _ => rfl
  | 2, _ => rfl
theorem rr_keepsc {post : Int32 → St2 → Prop} {u : St2} {M m k : Nat} {w : Int32} (hS : M ∈ rr_sets) (hG : rr_G M w u) (hm : m < 6) (hk : k < 16) (h1 : ∀ b9, rr_kp M m k → post 1 (u.1, u.2.1, u.2.2.1, u.2.2.2.1, u.2.2.2.2.1, u.2.2.2.2.2.1, u.2.2.2.2.2.2.1, u.2.2.2.2.2.2.2.1, u.2.2.2.2.2.2.2.2.1, u.2.2.2.2.2.2.2.2.2.1, u.2.2.2.2.2.2.2.2.2.2.1, u.2.2.2.2.2.2.2.2.2.2.2.1, u.2.2.2.2.2.2.2.2.2.2.2.2.1, u.2.2.2.2.2.2.2.2.2.2.2.2.2.1, u.2.2.2.2.2.2.2.2.2.2.2.2.2.2.1, u.2.2.2.2.2.2.2.2.2.2.2.2.2.2.2.1, u.2.2.2.2.2.2.2.2.2.2.2.2.2.2.2.2.1, b9, u.2.2.2.2.2.2.2.2.2.2.2.2.2.2.2.2.2.2.1, u.2.2.2.2.2.2.2.2.2.2.2.2.2.2.2.2.2.2.2.1, u.2.2.2.2.2.2.2.2.2.2.2.2.2.2.2.2.2.2.2.2)) (h0 : ∀ b9, ¬ rr_kp M m k → post 0 (u.1, u.2.1, u.2.2.1, u.2.2.2.1, u.2.2.2.2.1, u.2.2.2.2.2.1, u.2.2.2.2.2.2.1, u.2.2.2.2.2.2.2.1, u.2.2.2.2.2.2.2.2.1, u.2.2.2.2.2.2.2.2.2.1, u.2.2.2.2.2.2.2.2.2.2.1, u.2.2.2.2.2.2.2.2.2.2.2.1, u.2.2.2.2.2.2.2.2.2.2.2.2.1, u.2.2.2.2.2.2.2.2.2.2.2.2.2.1, u.2.2.2.2.2.2.2.2.2.2.2.2.2.2.1, u.2.2.2.2.2.2.2.2.2.2.2.2.2.2.2.1, u.2.2.2.2.2.2.2.2.2.2.2.2.2.2.2.2.1, b9, u.2.2.2.2.2.2.2.2.2.2.2.2.2.2.2.2.2.2.1, u.2.2.2.2.2.2.2.2.2.2.2.2.2.2.2.2.2.2.2.1, u.2.2.2.2.2.2.2.2.2.2.2.2.2.2.2.2.2.2.2.2)) : wpX_keeps_3 post u (nI m) (nI k) := by
  obtain ⟨u_ms, u_ws, u_rs, u_an, u_ns, u_nv, u_nt, u_mg, u_ll, u_a1, u_a2, u_a3, u_a4, u_a5, u_a6, u_a7, u_a8, u_a9, u_a10, u_a11, u_a12⟩ := u
  unfold wpX_keeps_3
  refine rr_findKeepersc (u := (u_ms, u_ws, u_rs, u_an, u_ns, u_nv, u_nt, u_mg, u_ll, u_a1, u_a2, u_a3, u_a4, u_a5, u_a6, u_a7, u_a8, u_a9, u_a10, u_a11, u_a12)) hS hG hk (fun b9 h9 => ?_)
  have F3 := rr_F3 M hS k hk
  have l0 := (F3 0 (by omega)).1
  have l1 := (F3 1 (by omega)).1
  have l2 := (F3 2 (by omega)).1
  refine pk_eq (rr_kt M k 0) m (fun z => h1 b9 ⟨0, by omega, z⟩) (fun z0 => pk_eq (rr_kt M k 1) m (fun z => h1 b9 ⟨1, by omega, z⟩) (fun z1 => pk_eq (rr_kt M k 2) m (fun z => h1 b9 ⟨2, by omega, z⟩) (fun z2 => h0 b9 ?_) (h9 2 (by omega))) (h9 1 (by omega))) (h9 0 (by omega))
  intro ⟨j, hj, e⟩
  match j, hj with
  | 0, _ => exact z0 e
  | 1, _ => exact z1 e
  | 2, _ => exact z2 e
end
section
/-- the key k at work: its keepers are found, and what was heard is nothing newer than its newest -/
def rr_R (M : Nat) (w : Int32) (T : Nat → Int32 × Int32 × Int32) (H : Nat → Nat → Prop) (k : Nat) (u : St2) : Prop :=
  rr_G M w u ∧ rr_B T H u ∧ (∀ j, j < 3 → u.2.2.2.2.2.2.2.2.2.2.2.2.2.2.2.2.2.1 j = nI (rr_kt M k j)) ∧ rr_o (T k) u.2.2.2.2.1 u.2.2.2.2.2.1 u.2.2.2.2.2.2.1
theorem rr_rd118 {post : St2 → Prop} {u : St2} {M k : Nat} {w c : Int32} {T : Nat → Int32 × Int32 × Int32} {H : Nat → Nat → Prop} (hS : M ∈ rr_sets) (hk : k < 16)
    (h : ∀ u, rr_R M w T H k u → u.2.2.2.2.1 = (T k).1 → post u) (hR : rr_R M w T H k u) (hs : u.2.2.2.2.1 = (T k).1) (hq : ∃ q, q < 8 ∧ u.2.2.2.1 = nI q) :
    ∃ n, wX_readNewest_118 post c (nI k) n 0 u.1 u.2.1 u.2.2.1 u.2.2.2.1 u.2.2.2.2.1 u.2.2.2.2.2.1 u.2.2.2.2.2.2.1 u.2.2.2.2.2.2.2.1 u.2.2.2.2.2.2.2.2.1 u.2.2.2.2.2.2.2.2.2.1 u.2.2.2.2.2.2.2.2.2.2.1 u.2.2.2.2.2.2.2.2.2.2.2.1 u.2.2.2.2.2.2.2.2.2.2.2.2.1 u.2.2.2.2.2.2.2.2.2.2.2.2.2.1 u.2.2.2.2.2.2.2.2.2.2.2.2.2.2.1 u.2.2.2.2.2.2.2.2.2.2.2.2.2.2.2.1 u.2.2.2.2.2.2.2.2.2.2.2.2.2.2.2.2.1 u.2.2.2.2.2.2.2.2.2.2.2.2.2.2.2.2.2.1 u.2.2.2.2.2.2.2.2.2.2.2.2.2.2.2.2.2.2.1 u.2.2.2.2.2.2.2.2.2.2.2.2.2.2.2.2.2.2.2.1 u.2.2.2.2.2.2.2.2.2.2.2.2.2.2.2.2.2.2.2.2 := by
  refine pk_loop (fun n i (u : St2) => wX_readNewest_118 post c (nI k) n (nI i) u.1 u.2.1 u.2.2.1 u.2.2.2.1 u.2.2.2.2.1 u.2.2.2.2.2.1 u.2.2.2.2.2.2.1 u.2.2.2.2.2.2.2.1 u.2.2.2.2.2.2.2.2.1 u.2.2.2.2.2.2.2.2.2.1 u.2.2.2.2.2.2.2.2.2.2.1 u.2.2.2.2.2.2.2.2.2.2.2.1 u.2.2.2.2.2.2.2.2.2.2.2.2.1 u.2.2.2.2.2.2.2.2.2.2.2.2.2.1 u.2.2.2.2.2.2.2.2.2.2.2.2.2.2.1 u.2.2.2.2.2.2.2.2.2.2.2.2.2.2.2.1 u.2.2.2.2.2.2.2.2.2.2.2.2.2.2.2.2.1 u.2.2.2.2.2.2.2.2.2.2.2.2.2.2.2.2.2.1 u.2.2.2.2.2.2.2.2.2.2.2.2.2.2.2.2.2.2.1 u.2.2.2.2.2.2.2.2.2.2.2.2.2.2.2.2.2.2.2.1 u.2.2.2.2.2.2.2.2.2.2.2.2.2.2.2.2.2.2.2.2) (fun _ u => rr_R M w T H k u ∧ u.2.2.2.2.1 = (T k).1 ∧ ∃ q, q < 8 ∧ u.2.2.2.1 = nI q) 3 0 u (by omega) ⟨hR, hs, hq⟩ ?_ ?_
  · intro n u I
    exact br_t (Int32.le_refl _) (h u I.1 I.2.1)
  · intro n i u hi I hw
    obtain ⟨⟨hG, ⟨⟨l, hl, el⟩, hC⟩, hK, hn⟩, hs, q, hq, eq⟩ := I
    have hkt := (rr_F3 M hS k hk i hi).1
    refine br_f (nI_ge (b := 3) hi (by decide)) ⟨pk_in i 3 hi, nm_r (e' := nI (rr_kt M k i)) (by rw [nI_clamp (by omega)]; exact hK i hi) (rr_hasAnswered eq hq hi (fun _ => br_f (by decide) ?_) (fun _ => br_t rfl (nm_r (nI_1 i) (hw u ⟨⟨hG, ⟨⟨l, hl, el⟩, hC⟩, hK, hn⟩, hs, q, hq, eq⟩))))⟩
    rw [rr_ix, nI_clamp (show rr_kt M k i * 16 + k < 2 ^ 31 by omega)]
    refine ⟨vp_in_nI (N := 96) (by omega) (by omega), br_c (fun _ => nm_r (nI_1 i) (hw u ⟨⟨hG, ⟨⟨l, hl, el⟩, hC⟩, hK, hn⟩, hs, q, hq, eq⟩)) (fun _ => rr_ct el hl (fun g l' hl' => br_f (by decide) ?_) (fun g l' hl' => br_t rfl (nm_r (nI_1 i) (hw (u.1, u.2.1, u.2.2.1, u.2.2.2.1, u.2.2.2.2.1, u.2.2.2.2.2.1, u.2.2.2.2.2.2.1, g, nI l', u.2.2.2.2.2.2.2.2.2.1, u.2.2.2.2.2.2.2.2.2.2.1, u.2.2.2.2.2.2.2.2.2.2.2.1, u.2.2.2.2.2.2.2.2.2.2.2.2.1, u.2.2.2.2.2.2.2.2.2.2.2.2.2.1, u.2.2.2.2.2.2.2.2.2.2.2.2.2.2.1, u.2.2.2.2.2.2.2.2.2.2.2.2.2.2.2.1, u.2.2.2.2.2.2.2.2.2.2.2.2.2.2.2.2.1, u.2.2.2.2.2.2.2.2.2.2.2.2.2.2.2.2.2.1, u.2.2.2.2.2.2.2.2.2.2.2.2.2.2.2.2.2.2.1, u.2.2.2.2.2.2.2.2.2.2.2.2.2.2.2.2.2.2.2.1, u.2.2.2.2.2.2.2.2.2.2.2.2.2.2.2.2.2.2.2.2) ⟨⟨hG, ⟨⟨l', by omega, rfl⟩, hC⟩, hK, hn⟩, hs, q, hq, eq⟩))))⟩
    exact rr_store (u := (u.1, u.2.1, u.2.2.1, u.2.2.2.1, u.2.2.2.2.1, u.2.2.2.2.2.1, u.2.2.2.2.2.2.1, g, nI l', u.2.2.2.2.2.2.2.2.2.1, u.2.2.2.2.2.2.2.2.2.2.1, u.2.2.2.2.2.2.2.2.2.2.2.1, u.2.2.2.2.2.2.2.2.2.2.2.2.1, u.2.2.2.2.2.2.2.2.2.2.2.2.2.1, u.2.2.2.2.2.2.2.2.2.2.2.2.2.2.1, u.2.2.2.2.2.2.2.2.2.2.2.2.2.2.2.1, u.2.2.2.2.2.2.2.2.2.2.2.2.2.2.2.2.1, u.2.2.2.2.2.2.2.2.2.2.2.2.2.2.2.2.2.1, u.2.2.2.2.2.2.2.2.2.2.2.2.2.2.2.2.2.2.1, u.2.2.2.2.2.2.2.2.2.2.2.2.2.2.2.2.2.2.2.1, u.2.2.2.2.2.2.2.2.2.2.2.2.2.2.2.2.2.2.2.2)) hkt hk hC hn (fun b3 b4 b5 k1 _ _ _ _ => nm_r (nI_1 i) (hw (u.1, u.2.1, u.2.2.1, u.2.2.2.1, u.2.2.2.2.1, u.2.2.2.2.2.1, u.2.2.2.2.2.2.1, g, nI l', u.2.2.2.2.2.2.2.2.2.1, u.2.2.2.2.2.2.2.2.2.2.1, b3, b4, b5, u.2.2.2.2.2.2.2.2.2.2.2.2.2.2.1, u.2.2.2.2.2.2.2.2.2.2.2.2.2.2.2.1, u.2.2.2.2.2.2.2.2.2.2.2.2.2.2.2.2.1, u.2.2.2.2.2.2.2.2.2.2.2.2.2.2.2.2.2.1, u.2.2.2.2.2.2.2.2.2.2.2.2.2.2.2.2.2.2.1, u.2.2.2.2.2.2.2.2.2.2.2.2.2.2.2.2.2.2.2.1, u.2.2.2.2.2.2.2.2.2.2.2.2.2.2.2.2.2.2.2.2) ⟨⟨hG, ⟨⟨l', by omega, rfl⟩, k1⟩, hK, hn⟩, hs, q, hq, eq⟩))
theorem rr_rd31 {post : St2 → Prop} {J : Int32 → Int32 → Int32 → Int32 → Int32 → Int32 → Int32 → Int32 → Int32 → Int32 → (Nat → Int32) → (Nat → Int32) → (Nat → Int32) → (Nat → Int32) → (Nat → Int32) → (Nat → Int32) → (Nat → Int32) → (Nat → Int32) → (Nat → Int32) → (Nat → Int32) → (Nat → Int32) → (Nat → Int32) → Prop}
    {u : St2} {M k r l0 : Nat} {w c : Int32} {T : Nat → Int32 × Int32 × Int32} {H : Nat → Nat → Prop} (hS : M ∈ rr_sets) (hk : k < 16)
    (h : ∀ (u : St2) (q l : Nat), rr_R M w T H k u → q < 8 → u.2.2.2.1 = nI q → (∀ j, j < 3 → q.testBit j = true → u.2.2.2.2.2.2.2.2.2.2.2.1 (rr_kt M k j * 16 + k) ≤ u.2.2.2.2.1) → l ≤ l0 → u.2.2.2.2.2.2.2.2.1 = nI l → (l < l0 ∨ ∀ j, j < 3 → rr_bit w (rr_kt M k j) = true → q.testBit j = true) → J (nI (r + 1)) u.1 u.2.1 u.2.2.1 u.2.2.2.1 u.2.2.2.2.1 u.2.2.2.2.2.1 u.2.2.2.2.2.2.1 u.2.2.2.2.2.2.2.1 u.2.2.2.2.2.2.2.2.1 u.2.2.2.2.2.2.2.2.2.1 u.2.2.2.2.2.2.2.2.2.2.1 u.2.2.2.2.2.2.2.2.2.2.2.1 u.2.2.2.2.2.2.2.2.2.2.2.2.1 u.2.2.2.2.2.2.2.2.2.2.2.2.2.1 u.2.2.2.2.2.2.2.2.2.2.2.2.2.2.1 u.2.2.2.2.2.2.2.2.2.2.2.2.2.2.2.1 u.2.2.2.2.2.2.2.2.2.2.2.2.2.2.2.2.1 u.2.2.2.2.2.2.2.2.2.2.2.2.2.2.2.2.2.1 u.2.2.2.2.2.2.2.2.2.2.2.2.2.2.2.2.2.2.1 u.2.2.2.2.2.2.2.2.2.2.2.2.2.2.2.2.2.2.2.1 u.2.2.2.2.2.2.2.2.2.2.2.2.2.2.2.2.2.2.2.2)
    {q : Nat} (hR : rr_R M w T H k u) (hq : q < 8) (eq : u.2.2.2.1 = nI q) (hA : ∀ j, j < 3 → q.testBit j = true → u.2.2.2.2.2.2.2.2.2.2.2.1 (rr_kt M k j * 16 + k) ≤ u.2.2.2.2.1) (hl0 : l0 ≤ 30) (el : u.2.2.2.2.2.2.2.2.1 = nI l0) :
    ∃ n, wX_readNewest_31 post J c (nI k) (nI r) n 0 u.1 u.2.1 u.2.2.1 u.2.2.2.1 u.2.2.2.2.1 u.2.2.2.2.2.1 u.2.2.2.2.2.2.1 u.2.2.2.2.2.2.2.1 u.2.2.2.2.2.2.2.2.1 u.2.2.2.2.2.2.2.2.2.1 u.2.2.2.2.2.2.2.2.2.2.1 u.2.2.2.2.2.2.2.2.2.2.2.1 u.2.2.2.2.2.2.2.2.2.2.2.2.1 u.2.2.2.2.2.2.2.2.2.2.2.2.2.1 u.2.2.2.2.2.2.2.2.2.2.2.2.2.2.1 u.2.2.2.2.2.2.2.2.2.2.2.2.2.2.2.1 u.2.2.2.2.2.2.2.2.2.2.2.2.2.2.2.2.1 u.2.2.2.2.2.2.2.2.2.2.2.2.2.2.2.2.2.1 u.2.2.2.2.2.2.2.2.2.2.2.2.2.2.2.2.2.2.1 u.2.2.2.2.2.2.2.2.2.2.2.2.2.2.2.2.2.2.2.1 u.2.2.2.2.2.2.2.2.2.2.2.2.2.2.2.2.2.2.2.2 := by
  refine pk_loop (fun n i (u : St2) => wX_readNewest_31 post J c (nI k) (nI r) n (nI i) u.1 u.2.1 u.2.2.1 u.2.2.2.1 u.2.2.2.2.1 u.2.2.2.2.2.1 u.2.2.2.2.2.2.1 u.2.2.2.2.2.2.2.1 u.2.2.2.2.2.2.2.2.1 u.2.2.2.2.2.2.2.2.2.1 u.2.2.2.2.2.2.2.2.2.2.1 u.2.2.2.2.2.2.2.2.2.2.2.1 u.2.2.2.2.2.2.2.2.2.2.2.2.1 u.2.2.2.2.2.2.2.2.2.2.2.2.2.1 u.2.2.2.2.2.2.2.2.2.2.2.2.2.2.1 u.2.2.2.2.2.2.2.2.2.2.2.2.2.2.2.1 u.2.2.2.2.2.2.2.2.2.2.2.2.2.2.2.2.1 u.2.2.2.2.2.2.2.2.2.2.2.2.2.2.2.2.2.1 u.2.2.2.2.2.2.2.2.2.2.2.2.2.2.2.2.2.2.1 u.2.2.2.2.2.2.2.2.2.2.2.2.2.2.2.2.2.2.2.1 u.2.2.2.2.2.2.2.2.2.2.2.2.2.2.2.2.2.2.2.2)
    (fun i u => ∃ q l, rr_R M w T H k u ∧ q < 8 ∧ u.2.2.2.1 = nI q ∧ (∀ j, j < 3 → q.testBit j = true → u.2.2.2.2.2.2.2.2.2.2.2.1 (rr_kt M k j * 16 + k) ≤ u.2.2.2.2.1) ∧ l ≤ l0 ∧ u.2.2.2.2.2.2.2.2.1 = nI l ∧ (l < l0 ∨ ∀ j, j < i → rr_bit w (rr_kt M k j) = true → q.testBit j = true)) 3 0 u (by omega)
    ⟨q, l0, hR, hq, eq, hA, Nat.le_refl _, el, Or.inr (fun j hj => absurd hj (by omega))⟩ ?_ ?_
  · intro n u ⟨q, l, hR, hq, eq, hA, hl, el, hP⟩
    exact br_t (Int32.le_refl _) (nm_r (nI_1 r) (h u q l hR hq eq hA hl el hP))
  · intro n i u hi ⟨q, l, hR, hq, eq, hA, hl, el, hP⟩ hw
    obtain ⟨hG, ⟨_, hC⟩, hK, hn⟩ := hR
    have hkt := (rr_F3 M hS k hk i hi).1
    have hws : u.2.1 = w := hG.2.1
    refine br_f (nI_ge (b := 3) hi (by decide)) ⟨pk_in i 3 hi, nm_r (e' := nI (rr_kt M k i)) (by rw [nI_clamp (by omega)]; exact hK i hi) (rr_isWorking hkt (fun hb => br_f (by decide) (rr_hasAnswered eq hq hi (fun ht => br_f (by decide) ?_) (fun ht => br_t rfl ?_))) (fun hb => br_t rfl ?_))⟩
    · refine nm_r (nI_1 i) (hw u ⟨q, l, ⟨hG, ⟨⟨l, by omega, el⟩, hC⟩, hK, hn⟩, hq, eq, hA, hl, el, ?_⟩)
      rcases hP with hP | hP
      · exact Or.inl hP
      · refine Or.inr (fun j hj z => ?_)
        by_cases e : j = i
        · rw [e]; exact ht
        · exact hP j (by omega) z
    · refine rr_ct el (by omega) (fun g l' hl' => br_f (by decide) ?_) (fun g l' hl' => br_t rfl (nm_r (nI_1 i) (hw (u.1, u.2.1, u.2.2.1, u.2.2.2.1, u.2.2.2.2.1, u.2.2.2.2.2.1, u.2.2.2.2.2.2.1, g, nI l', u.2.2.2.2.2.2.2.2.2.1, u.2.2.2.2.2.2.2.2.2.2.1, u.2.2.2.2.2.2.2.2.2.2.2.1, u.2.2.2.2.2.2.2.2.2.2.2.2.1, u.2.2.2.2.2.2.2.2.2.2.2.2.2.1, u.2.2.2.2.2.2.2.2.2.2.2.2.2.2.1, u.2.2.2.2.2.2.2.2.2.2.2.2.2.2.2.1, u.2.2.2.2.2.2.2.2.2.2.2.2.2.2.2.2.1, u.2.2.2.2.2.2.2.2.2.2.2.2.2.2.2.2.2.1, u.2.2.2.2.2.2.2.2.2.2.2.2.2.2.2.2.2.2.1, u.2.2.2.2.2.2.2.2.2.2.2.2.2.2.2.2.2.2.2.1, u.2.2.2.2.2.2.2.2.2.2.2.2.2.2.2.2.2.2.2.2) ⟨q, l', ⟨hG, ⟨⟨l', by omega, rfl⟩, hC⟩, hK, hn⟩, hq, eq, hA, by omega, rfl, Or.inl (by omega)⟩)))
      refine rr_ct (u := (u.1, u.2.1, u.2.2.1, u.2.2.2.1, u.2.2.2.2.1, u.2.2.2.2.2.1, u.2.2.2.2.2.2.1, g, nI l', u.2.2.2.2.2.2.2.2.2.1, u.2.2.2.2.2.2.2.2.2.2.1, u.2.2.2.2.2.2.2.2.2.2.2.1, u.2.2.2.2.2.2.2.2.2.2.2.2.1, u.2.2.2.2.2.2.2.2.2.2.2.2.2.1, u.2.2.2.2.2.2.2.2.2.2.2.2.2.2.1, u.2.2.2.2.2.2.2.2.2.2.2.2.2.2.2.1, u.2.2.2.2.2.2.2.2.2.2.2.2.2.2.2.2.1, u.2.2.2.2.2.2.2.2.2.2.2.2.2.2.2.2.2.1, u.2.2.2.2.2.2.2.2.2.2.2.2.2.2.2.2.2.2.1, u.2.2.2.2.2.2.2.2.2.2.2.2.2.2.2.2.2.2.2.1, u.2.2.2.2.2.2.2.2.2.2.2.2.2.2.2.2.2.2.2.2)) (l := l') rfl (by omega) (fun g2 l2 hl2 => br_f (by decide) ?_) (fun g2 l2 hl2 => br_t rfl (nm_r (nI_1 i) (hw (u.1, u.2.1, u.2.2.1, u.2.2.2.1, u.2.2.2.2.1, u.2.2.2.2.2.1, u.2.2.2.2.2.2.1, g2, nI l2, u.2.2.2.2.2.2.2.2.2.1, u.2.2.2.2.2.2.2.2.2.2.1, u.2.2.2.2.2.2.2.2.2.2.2.1, u.2.2.2.2.2.2.2.2.2.2.2.2.1, u.2.2.2.2.2.2.2.2.2.2.2.2.2.1, u.2.2.2.2.2.2.2.2.2.2.2.2.2.2.1, u.2.2.2.2.2.2.2.2.2.2.2.2.2.2.2.1, u.2.2.2.2.2.2.2.2.2.2.2.2.2.2.2.2.1, u.2.2.2.2.2.2.2.2.2.2.2.2.2.2.2.2.2.1, u.2.2.2.2.2.2.2.2.2.2.2.2.2.2.2.2.2.2.1, u.2.2.2.2.2.2.2.2.2.2.2.2.2.2.2.2.2.2.2.1, u.2.2.2.2.2.2.2.2.2.2.2.2.2.2.2.2.2.2.2.2) ⟨q, l2, ⟨hG, ⟨⟨l2, by omega, rfl⟩, hC⟩, hK, hn⟩, hq, eq, hA, by omega, rfl, Or.inl (by omega)⟩)))
      refine nm_r (e' := nI (q ||| 2 ^ i)) (by show u.2.2.2.1 ||| _ = _; rw [eq]; exact (rr_Q2 q hq i hi).1) ?_
      refine rr_hear (u := (u.1, u.2.1, u.2.2.1, nI (q ||| 2 ^ i), u.2.2.2.2.1, u.2.2.2.2.2.1, u.2.2.2.2.2.2.1, g2, nI l2, u.2.2.2.2.2.2.2.2.2.1, u.2.2.2.2.2.2.2.2.2.2.1, u.2.2.2.2.2.2.2.2.2.2.2.1, u.2.2.2.2.2.2.2.2.2.2.2.2.1, u.2.2.2.2.2.2.2.2.2.2.2.2.2.1, u.2.2.2.2.2.2.2.2.2.2.2.2.2.2.1, u.2.2.2.2.2.2.2.2.2.2.2.2.2.2.2.1, u.2.2.2.2.2.2.2.2.2.2.2.2.2.2.2.2.1, u.2.2.2.2.2.2.2.2.2.2.2.2.2.2.2.2.2.1, u.2.2.2.2.2.2.2.2.2.2.2.2.2.2.2.2.2.2.1, u.2.2.2.2.2.2.2.2.2.2.2.2.2.2.2.2.2.2.2.1, u.2.2.2.2.2.2.2.2.2.2.2.2.2.2.2.2.2.2.2.2)) hkt hk hC hn (fun s v b k1 k2 k3 _ => nm_r (nI_1 i) (hw (u.1, u.2.1, u.2.2.1, nI (q ||| 2 ^ i), s, v, b, g2, nI l2, u.2.2.2.2.2.2.2.2.2.1, u.2.2.2.2.2.2.2.2.2.2.1, u.2.2.2.2.2.2.2.2.2.2.2.1, u.2.2.2.2.2.2.2.2.2.2.2.2.1, u.2.2.2.2.2.2.2.2.2.2.2.2.2.1, u.2.2.2.2.2.2.2.2.2.2.2.2.2.2.1, u.2.2.2.2.2.2.2.2.2.2.2.2.2.2.2.1, u.2.2.2.2.2.2.2.2.2.2.2.2.2.2.2.2.1, u.2.2.2.2.2.2.2.2.2.2.2.2.2.2.2.2.2.1, u.2.2.2.2.2.2.2.2.2.2.2.2.2.2.2.2.2.2.1, u.2.2.2.2.2.2.2.2.2.2.2.2.2.2.2.2.2.2.2.1, u.2.2.2.2.2.2.2.2.2.2.2.2.2.2.2.2.2.2.2.2) ⟨q ||| 2 ^ i, l2, ⟨hG, ⟨⟨l2, by omega, rfl⟩, hC⟩, hK, k1⟩, (rr_Q2 q hq i hi).2, rfl, fun j hj z => ?_, by omega, rfl, ?_⟩))
      · rw [rr_Q2b q hq i hi j hj] at z
        by_cases e : j = i
        · rw [e]; exact k2
        · refine Int32.le_trans (hA j hj ?_) k3
          simpa [e] using z
      · rcases hP with hP | hP
        · exact Or.inl (by omega)
        · refine Or.inr (fun j hj z => ?_)
          rw [rr_Q2b q hq i hi j (by omega)]
          by_cases e : j = i
          · simp [e]
          · rw [hP j (by omega) z]; rfl
    · refine nm_r (nI_1 i) (hw u ⟨q, l, ⟨hG, ⟨⟨l, by omega, el⟩, hC⟩, hK, hn⟩, hq, eq, hA, hl, el, ?_⟩)
      rcases hP with hP | hP
      · exact Or.inl hP
      · refine Or.inr (fun j hj z => ?_)
        by_cases e : j = i
        · rw [e, ← hws] at z
          have z' : rr_bit u.2.1 (rr_kt M k i) = true := z
          have hb' : rr_bit u.2.1 (rr_kt M k i) = false := hb
          rw [hb'] at z'
          exact absurd z' (by decide)
        · exact hP j (by omega) z
/-- a read by two of three: the newest is heard, and nothing is lost -/
theorem rr_readNewest {post : St2 → Prop} {u : St2} {M k : Nat} {w c : Int32} {T : Nat → Int32 × Int32 × Int32} {H : Nat → Nat → Prop} (hS : M ∈ rr_sets) (hE : rr_en w M k 2) (hk : k < 16) (hG : rr_G M w u) (hB : rr_B T H u) (h2 : rr_two M k H)
    (h : ∀ u, rr_R M w T H k u → u.2.2.2.2.1 = (T k).1 → post u) : wpX_readNewest post u c (nI k) := by
  obtain ⟨u_ms, u_ws, u_rs, u_an, u_ns, u_nv, u_nt, u_mg, u_ll, u_a1, u_a2, u_a3, u_a4, u_a5, u_a6, u_a7, u_a8, u_a9, u_a10, u_a11, u_a12⟩ := u
  unfold wpX_readNewest
  refine rr_findKeepers (u := (u_ms, u_ws, u_rs, u_an, u_ns, u_nv, u_nt, u_mg, u_ll, u_a1, u_a2, u_a3, u_a4, u_a5, u_a6, u_a7, u_a8, u_a9, u_a10, u_a11, u_a12)) hS hG hk (fun b9 h9 => rr_startWork ?_)
  obtain ⟨⟨l, hl, el⟩, hC⟩ := hB
  have hfin : ∀ (u : St2) (q : Nat), rr_R M w T H k u → q < 8 → u.2.2.2.1 = nI q → (∀ j, j < 3 → q.testBit j = true → u.2.2.2.2.2.2.2.2.2.2.2.1 (rr_kt M k j * 16 + k) ≤ u.2.2.2.2.1) → 2 ≤ rr_pc q → ∃ n, wX_readNewest_118 post c (nI k) n 0 u.1 u.2.1 u.2.2.1 u.2.2.2.1 u.2.2.2.2.1 u.2.2.2.2.2.1 u.2.2.2.2.2.2.1 u.2.2.2.2.2.2.2.1 u.2.2.2.2.2.2.2.2.1 u.2.2.2.2.2.2.2.2.2.1 u.2.2.2.2.2.2.2.2.2.2.1 u.2.2.2.2.2.2.2.2.2.2.2.1 u.2.2.2.2.2.2.2.2.2.2.2.2.1 u.2.2.2.2.2.2.2.2.2.2.2.2.2.1 u.2.2.2.2.2.2.2.2.2.2.2.2.2.2.1 u.2.2.2.2.2.2.2.2.2.2.2.2.2.2.2.1 u.2.2.2.2.2.2.2.2.2.2.2.2.2.2.2.2.1 u.2.2.2.2.2.2.2.2.2.2.2.2.2.2.2.2.2.1 u.2.2.2.2.2.2.2.2.2.2.2.2.2.2.2.2.2.2.1 u.2.2.2.2.2.2.2.2.2.2.2.2.2.2.2.2.2.2.2.1 u.2.2.2.2.2.2.2.2.2.2.2.2.2.2.2.2.2.2.2.2 := by
    intro u q hR hq eq hA hp
    refine rr_rd118 hS hk h hR ?_ ⟨q, hq, eq⟩
    obtain ⟨i, hi, j, hj, hij, ti, tj⟩ := rr_P4 q hq hp
    have hC := hR.2.1.2
    refine Int32.le_antisymm hR.2.2.2.2.1 ?_
    rcases h2 i hi j hj hij with z | z
    · have y := hC.2.2 _ (rr_F3 M hS k hk i hi).1 k hk z
      rw [← y]; exact hA i hi ti
    · have y := hC.2.2 _ (rr_F3 M hS k hk j hj).1 k hk z
      rw [← y]; exact hA j hj tj
  refine pk_loop (fun n r (u : St2) => wX_readNewest_11 post c (nI k) n (nI r) u.1 u.2.1 u.2.2.1 u.2.2.2.1 u.2.2.2.2.1 u.2.2.2.2.2.1 u.2.2.2.2.2.2.1 u.2.2.2.2.2.2.2.1 u.2.2.2.2.2.2.2.2.1 u.2.2.2.2.2.2.2.2.2.1 u.2.2.2.2.2.2.2.2.2.2.1 u.2.2.2.2.2.2.2.2.2.2.2.1 u.2.2.2.2.2.2.2.2.2.2.2.2.1 u.2.2.2.2.2.2.2.2.2.2.2.2.2.1 u.2.2.2.2.2.2.2.2.2.2.2.2.2.2.1 u.2.2.2.2.2.2.2.2.2.2.2.2.2.2.2.1 u.2.2.2.2.2.2.2.2.2.2.2.2.2.2.2.2.1 u.2.2.2.2.2.2.2.2.2.2.2.2.2.2.2.2.2.1 u.2.2.2.2.2.2.2.2.2.2.2.2.2.2.2.2.2.2.1 u.2.2.2.2.2.2.2.2.2.2.2.2.2.2.2.2.2.2.2.1 u.2.2.2.2.2.2.2.2.2.2.2.2.2.2.2.2.2.2.2.2)
    (fun r u => ∃ q l, rr_R M w T H k u ∧ q < 8 ∧ u.2.2.2.1 = nI q ∧ (∀ j, j < 3 → q.testBit j = true → u.2.2.2.2.2.2.2.2.2.2.2.1 (rr_kt M k j * 16 + k) ≤ u.2.2.2.2.1) ∧ l ≤ 30 ∧ u.2.2.2.2.2.2.2.2.1 = nI l ∧ (2 ≤ rr_pc q ∨ r + l ≤ 30)) 80 0 (u_ms, u_ws, u_rs, 0, 0, 0, 0, u_mg, u_ll, u_a1, u_a2, u_a3, u_a4, u_a5, u_a6, u_a7, u_a8, b9, u_a10, u_a11, u_a12) (by omega)
    ⟨0, l, ⟨hG, ⟨⟨l, hl, el⟩, hC⟩, h9, rr_o_0 (rr_o_T (hC.1 0 (by omega) k hk))⟩, by omega, rfl, fun j _ z => absurd z (by simp), hl, el, Or.inr (by omega)⟩ ?_ ?_
  · intro n u ⟨q, l, hR, hq, eq, hA, hl, el, hP⟩
    refine br_t (Int32.le_refl _) (hfin u q hR hq eq hA ?_)
    rcases hP with hP | hP
    · exact hP
    · omega
  · intro n r u hr ⟨q, l, hR, hq, eq, hA, hl, el, hP⟩ hw
    have P3 := rr_P3 q hq
    refine br_f (nI_ge (b := 80) hr (by decide)) (rr_onesW (pk_le 2 (rr_pc q) (fun z => hfin u q hR hq eq hA z) (fun z => ?_) rfl (by rw [eq]; exact P3.1)))
    refine rr_rd31 hS hk (l0 := l) (fun u' q' l' hR' hq' eq' hA' hl' el' hP' => hw u' ⟨q', l', hR', hq', eq', hA', by omega, el', ?_⟩) hR hq eq hA hl el
    rcases hP' with hP' | hP'
    · right; omega
    · left; exact hE q' hq' hP'
theorem rr_wr121 {post : St2 → Prop} {u : St2} {M k c : Nat} {w : Int32} {T : Nat → Int32 × Int32 × Int32} {H : Nat → Nat → Prop} (hS : M ∈ rr_sets) (hk : k < 16) (hc : c < 6) {q : Nat}
    (h : ∀ u, rr_G M w u → rr_B T H u → (∀ j, j < 3 → q.testBit j = true → u.2.2.2.2.2.2.2.2.2.2.2.1 (rr_kt M k j * 16 + k) = (T k).1) → post u) (hR : rr_R M w T H k u) (hA : ∀ j, j < 3 → q.testBit j = true → u.2.2.2.2.2.2.2.2.2.2.2.1 (rr_kt M k j * 16 + k) = (T k).1) :
    ∃ n, wX_writeNewest_121 post (nI c) (nI k) n 0 u.1 u.2.1 u.2.2.1 u.2.2.2.1 u.2.2.2.2.1 u.2.2.2.2.2.1 u.2.2.2.2.2.2.1 u.2.2.2.2.2.2.2.1 u.2.2.2.2.2.2.2.2.1 u.2.2.2.2.2.2.2.2.2.1 u.2.2.2.2.2.2.2.2.2.2.1 u.2.2.2.2.2.2.2.2.2.2.2.1 u.2.2.2.2.2.2.2.2.2.2.2.2.1 u.2.2.2.2.2.2.2.2.2.2.2.2.2.1 u.2.2.2.2.2.2.2.2.2.2.2.2.2.2.1 u.2.2.2.2.2.2.2.2.2.2.2.2.2.2.2.1 u.2.2.2.2.2.2.2.2.2.2.2.2.2.2.2.2.1 u.2.2.2.2.2.2.2.2.2.2.2.2.2.2.2.2.2.1 u.2.2.2.2.2.2.2.2.2.2.2.2.2.2.2.2.2.2.1 u.2.2.2.2.2.2.2.2.2.2.2.2.2.2.2.2.2.2.2.1 u.2.2.2.2.2.2.2.2.2.2.2.2.2.2.2.2.2.2.2.2 := by
  refine pk_loop (fun n i (u : St2) => wX_writeNewest_121 post (nI c) (nI k) n (nI i) u.1 u.2.1 u.2.2.1 u.2.2.2.1 u.2.2.2.2.1 u.2.2.2.2.2.1 u.2.2.2.2.2.2.1 u.2.2.2.2.2.2.2.1 u.2.2.2.2.2.2.2.2.1 u.2.2.2.2.2.2.2.2.2.1 u.2.2.2.2.2.2.2.2.2.2.1 u.2.2.2.2.2.2.2.2.2.2.2.1 u.2.2.2.2.2.2.2.2.2.2.2.2.1 u.2.2.2.2.2.2.2.2.2.2.2.2.2.1 u.2.2.2.2.2.2.2.2.2.2.2.2.2.2.1 u.2.2.2.2.2.2.2.2.2.2.2.2.2.2.2.1 u.2.2.2.2.2.2.2.2.2.2.2.2.2.2.2.2.1 u.2.2.2.2.2.2.2.2.2.2.2.2.2.2.2.2.2.1 u.2.2.2.2.2.2.2.2.2.2.2.2.2.2.2.2.2.2.1 u.2.2.2.2.2.2.2.2.2.2.2.2.2.2.2.2.2.2.2.1 u.2.2.2.2.2.2.2.2.2.2.2.2.2.2.2.2.2.2.2.2) (fun _ u => rr_R M w T H k u ∧ ∀ j, j < 3 → q.testBit j = true → u.2.2.2.2.2.2.2.2.2.2.2.1 (rr_kt M k j * 16 + k) = (T k).1) 3 0 u (by omega) ⟨hR, hA⟩ ?_ ?_
  · intro n u I
    exact br_t (Int32.le_refl _) (h u I.1.1 I.1.2.1 I.2)
  · intro n i u hi I hw
    obtain ⟨⟨hG, ⟨hl, hC⟩, hK, hn⟩, hA⟩ := I
    have hkt := (rr_F3 M hS k hk i hi).1
    refine br_f (nI_ge (b := 3) hi (by decide)) ⟨pk_in i 3 hi, ?_⟩
    rw [nI_clamp (show i < 2 ^ 31 by omega), hK i hi]
    refine rr_isWorking hkt (fun _ => br_f (by decide) (nm_r (nI_1 i) (hw u ⟨⟨hG, ⟨hl, hC⟩, hK, hn⟩, hA⟩))) (fun _ => br_t rfl ⟨pk_in i 3 hi, ?_⟩)
    exact rr_hintW (u := (u.1, u.2.1, u.2.2.1, u.2.2.2.1, u.2.2.2.2.1, u.2.2.2.2.2.1, u.2.2.2.2.2.2.1, u.2.2.2.2.2.2.2.1, u.2.2.2.2.2.2.2.2.1, u.2.2.2.2.2.2.2.2.2.1, u.2.2.2.2.2.2.2.2.2.2.1, u.2.2.2.2.2.2.2.2.2.2.2.1, u.2.2.2.2.2.2.2.2.2.2.2.2.1, u.2.2.2.2.2.2.2.2.2.2.2.2.2.1, u.2.2.2.2.2.2.2.2.2.2.2.2.2.2.1, u.2.2.2.2.2.2.2.2.2.2.2.2.2.2.2.1, u.2.2.2.2.2.2.2.2.2.2.2.2.2.2.2.2.1, u.2.2.2.2.2.2.2.2.2.2.2.2.2.2.2.2.2.1, u.2.2.2.2.2.2.2.2.2.2.2.2.2.2.2.2.2.2.1, u.2.2.2.2.2.2.2.2.2.2.2.2.2.2.2.2.2.2.2.1, u.2.2.2.2.2.2.2.2.2.2.2.2.2.2.2.2.2.2.2.2)) hc hkt hk hC hn (fun b6 b7 b8 k1 => nm_r (nI_1 i) (hw (u.1, u.2.1, u.2.2.1, u.2.2.2.1, u.2.2.2.2.1, u.2.2.2.2.2.1, u.2.2.2.2.2.2.1, u.2.2.2.2.2.2.2.1, u.2.2.2.2.2.2.2.2.1, u.2.2.2.2.2.2.2.2.2.1, u.2.2.2.2.2.2.2.2.2.2.1, u.2.2.2.2.2.2.2.2.2.2.2.1, u.2.2.2.2.2.2.2.2.2.2.2.2.1, u.2.2.2.2.2.2.2.2.2.2.2.2.2.1, b6, b7, b8, u.2.2.2.2.2.2.2.2.2.2.2.2.2.2.2.2.2.1, u.2.2.2.2.2.2.2.2.2.2.2.2.2.2.2.2.2.2.1, u.2.2.2.2.2.2.2.2.2.2.2.2.2.2.2.2.2.2.2.1, u.2.2.2.2.2.2.2.2.2.2.2.2.2.2.2.2.2.2.2.2) ⟨⟨hG, ⟨hl, k1⟩, hK, hn⟩, hA⟩))
theorem rr_wr29 {post : St2 → Prop} {J : Int32 → Int32 → Int32 → Int32 → Int32 → Int32 → Int32 → Int32 → Int32 → Int32 → (Nat → Int32) → (Nat → Int32) → (Nat → Int32) → (Nat → Int32) → (Nat → Int32) → (Nat → Int32) → (Nat → Int32) → (Nat → Int32) → (Nat → Int32) → (Nat → Int32) → (Nat → Int32) → (Nat → Int32) → Prop}
    {u : St2} {M k r l0 : Nat} {w c x3 : Int32} {T : Nat → Int32 × Int32 × Int32} {H : Nat → Nat → Prop} (hS : M ∈ rr_sets) (hk : k < 16)
    (h : ∀ (u : St2) (q l : Nat), rr_R M w T H k u → u.2.2.2.2.1 = (T k).1 → q < 8 → u.2.2.2.1 = nI q → (∀ j, j < 3 → q.testBit j = true → u.2.2.2.2.2.2.2.2.2.2.2.1 (rr_kt M k j * 16 + k) = (T k).1) → l ≤ l0 → u.2.2.2.2.2.2.2.2.1 = nI l → (l < l0 ∨ ∀ j, j < 3 → rr_bit w (rr_kt M k j) = true → q.testBit j = true) → J (nI (r + 1)) u.1 u.2.1 u.2.2.1 u.2.2.2.1 u.2.2.2.2.1 u.2.2.2.2.2.1 u.2.2.2.2.2.2.1 u.2.2.2.2.2.2.2.1 u.2.2.2.2.2.2.2.2.1 u.2.2.2.2.2.2.2.2.2.1 u.2.2.2.2.2.2.2.2.2.2.1 u.2.2.2.2.2.2.2.2.2.2.2.1 u.2.2.2.2.2.2.2.2.2.2.2.2.1 u.2.2.2.2.2.2.2.2.2.2.2.2.2.1 u.2.2.2.2.2.2.2.2.2.2.2.2.2.2.1 u.2.2.2.2.2.2.2.2.2.2.2.2.2.2.2.1 u.2.2.2.2.2.2.2.2.2.2.2.2.2.2.2.2.1 u.2.2.2.2.2.2.2.2.2.2.2.2.2.2.2.2.2.1 u.2.2.2.2.2.2.2.2.2.2.2.2.2.2.2.2.2.2.1 u.2.2.2.2.2.2.2.2.2.2.2.2.2.2.2.2.2.2.2.1 u.2.2.2.2.2.2.2.2.2.2.2.2.2.2.2.2.2.2.2.2)
    {q : Nat} (hR : rr_R M w T H k u) (hs : u.2.2.2.2.1 = (T k).1) (hq : q < 8) (eq : u.2.2.2.1 = nI q) (hA : ∀ j, j < 3 → q.testBit j = true → u.2.2.2.2.2.2.2.2.2.2.2.1 (rr_kt M k j * 16 + k) = (T k).1) (hl0 : l0 ≤ 30) (el : u.2.2.2.2.2.2.2.2.1 = nI l0) :
    ∃ n, wX_writeNewest_29 post J c (nI k) x3 (nI r) n 0 u.1 u.2.1 u.2.2.1 u.2.2.2.1 u.2.2.2.2.1 u.2.2.2.2.2.1 u.2.2.2.2.2.2.1 u.2.2.2.2.2.2.2.1 u.2.2.2.2.2.2.2.2.1 u.2.2.2.2.2.2.2.2.2.1 u.2.2.2.2.2.2.2.2.2.2.1 u.2.2.2.2.2.2.2.2.2.2.2.1 u.2.2.2.2.2.2.2.2.2.2.2.2.1 u.2.2.2.2.2.2.2.2.2.2.2.2.2.1 u.2.2.2.2.2.2.2.2.2.2.2.2.2.2.1 u.2.2.2.2.2.2.2.2.2.2.2.2.2.2.2.1 u.2.2.2.2.2.2.2.2.2.2.2.2.2.2.2.2.1 u.2.2.2.2.2.2.2.2.2.2.2.2.2.2.2.2.2.1 u.2.2.2.2.2.2.2.2.2.2.2.2.2.2.2.2.2.2.1 u.2.2.2.2.2.2.2.2.2.2.2.2.2.2.2.2.2.2.2.1 u.2.2.2.2.2.2.2.2.2.2.2.2.2.2.2.2.2.2.2.2 := by
  refine pk_loop (fun n i (u : St2) => wX_writeNewest_29 post J c (nI k) x3 (nI r) n (nI i) u.1 u.2.1 u.2.2.1 u.2.2.2.1 u.2.2.2.2.1 u.2.2.2.2.2.1 u.2.2.2.2.2.2.1 u.2.2.2.2.2.2.2.1 u.2.2.2.2.2.2.2.2.1 u.2.2.2.2.2.2.2.2.2.1 u.2.2.2.2.2.2.2.2.2.2.1 u.2.2.2.2.2.2.2.2.2.2.2.1 u.2.2.2.2.2.2.2.2.2.2.2.2.1 u.2.2.2.2.2.2.2.2.2.2.2.2.2.1 u.2.2.2.2.2.2.2.2.2.2.2.2.2.2.1 u.2.2.2.2.2.2.2.2.2.2.2.2.2.2.2.1 u.2.2.2.2.2.2.2.2.2.2.2.2.2.2.2.2.1 u.2.2.2.2.2.2.2.2.2.2.2.2.2.2.2.2.2.1 u.2.2.2.2.2.2.2.2.2.2.2.2.2.2.2.2.2.2.1 u.2.2.2.2.2.2.2.2.2.2.2.2.2.2.2.2.2.2.2.1 u.2.2.2.2.2.2.2.2.2.2.2.2.2.2.2.2.2.2.2.2)
    (fun i u => ∃ q l, rr_R M w T H k u ∧ u.2.2.2.2.1 = (T k).1 ∧ q < 8 ∧ u.2.2.2.1 = nI q ∧ (∀ j, j < 3 → q.testBit j = true → u.2.2.2.2.2.2.2.2.2.2.2.1 (rr_kt M k j * 16 + k) = (T k).1) ∧ l ≤ l0 ∧ u.2.2.2.2.2.2.2.2.1 = nI l ∧ (l < l0 ∨ ∀ j, j < i → rr_bit w (rr_kt M k j) = true → q.testBit j = true)) 3 0 u (by omega)
    ⟨q, l0, hR, hs, hq, eq, hA, Nat.le_refl _, el, Or.inr (fun j hj => absurd hj (by omega))⟩ ?_ ?_
  · intro n u ⟨q, l, hR, hs, hq, eq, hA, hl, el, hP⟩
    exact br_t (Int32.le_refl _) (nm_r (nI_1 r) (h u q l hR hs hq eq hA hl el hP))
  · intro n i u hi ⟨q, l, hR, hs, hq, eq, hA, hl, el, hP⟩ hw
    obtain ⟨hG, ⟨_, hC⟩, hK, hn⟩ := hR
    have hkt := (rr_F3 M hS k hk i hi).1
    have hws : u.2.1 = w := hG.2.1
    refine br_f (nI_ge (b := 3) hi (by decide)) ⟨pk_in i 3 hi, nm_r (e' := nI (rr_kt M k i)) (by rw [nI_clamp (by omega)]; exact hK i hi) (rr_isWorking hkt (fun hb => br_f (by decide) (rr_hasAnswered eq hq hi (fun ht => br_f (by decide) ?_) (fun ht => br_t rfl ?_))) (fun hb => br_t rfl ?_))⟩
    · refine nm_r (nI_1 i) (hw u ⟨q, l, ⟨hG, ⟨⟨l, by omega, el⟩, hC⟩, hK, hn⟩, hs, hq, eq, hA, hl, el, ?_⟩)
      rcases hP with hP | hP
      · exact Or.inl hP
      · refine Or.inr (fun j hj z => ?_)
        by_cases e : j = i
        · rw [e]; exact ht
        · exact hP j (by omega) z
    · refine rr_ct el (by omega) (fun g l' hl' => br_f (by decide) ?_) (fun g l' hl' => br_t rfl (nm_r (nI_1 i) (hw (u.1, u.2.1, u.2.2.1, u.2.2.2.1, u.2.2.2.2.1, u.2.2.2.2.2.1, u.2.2.2.2.2.2.1, g, nI l', u.2.2.2.2.2.2.2.2.2.1, u.2.2.2.2.2.2.2.2.2.2.1, u.2.2.2.2.2.2.2.2.2.2.2.1, u.2.2.2.2.2.2.2.2.2.2.2.2.1, u.2.2.2.2.2.2.2.2.2.2.2.2.2.1, u.2.2.2.2.2.2.2.2.2.2.2.2.2.2.1, u.2.2.2.2.2.2.2.2.2.2.2.2.2.2.2.1, u.2.2.2.2.2.2.2.2.2.2.2.2.2.2.2.2.1, u.2.2.2.2.2.2.2.2.2.2.2.2.2.2.2.2.2.1, u.2.2.2.2.2.2.2.2.2.2.2.2.2.2.2.2.2.2.1, u.2.2.2.2.2.2.2.2.2.2.2.2.2.2.2.2.2.2.2.1, u.2.2.2.2.2.2.2.2.2.2.2.2.2.2.2.2.2.2.2.2) ⟨q, l', ⟨hG, ⟨⟨l', by omega, rfl⟩, hC⟩, hK, hn⟩, hs, hq, eq, hA, by omega, rfl, Or.inl (by omega)⟩)))
      refine rr_store (u := (u.1, u.2.1, u.2.2.1, u.2.2.2.1, u.2.2.2.2.1, u.2.2.2.2.2.1, u.2.2.2.2.2.2.1, g, nI l', u.2.2.2.2.2.2.2.2.2.1, u.2.2.2.2.2.2.2.2.2.2.1, u.2.2.2.2.2.2.2.2.2.2.2.1, u.2.2.2.2.2.2.2.2.2.2.2.2.1, u.2.2.2.2.2.2.2.2.2.2.2.2.2.1, u.2.2.2.2.2.2.2.2.2.2.2.2.2.2.1, u.2.2.2.2.2.2.2.2.2.2.2.2.2.2.2.1, u.2.2.2.2.2.2.2.2.2.2.2.2.2.2.2.2.1, u.2.2.2.2.2.2.2.2.2.2.2.2.2.2.2.2.2.1, u.2.2.2.2.2.2.2.2.2.2.2.2.2.2.2.2.2.2.1, u.2.2.2.2.2.2.2.2.2.2.2.2.2.2.2.2.2.2.2.1, u.2.2.2.2.2.2.2.2.2.2.2.2.2.2.2.2.2.2.2.2)) hkt hk hC hn (fun b3 b4 b5 k1 k2 _ _ k5 => ?_)
      have B : ∀ j, j < 3 → b3 (rr_kt M k j * 16 + k) ≤ (T k).1 := fun j hj => (k1.1 _ (rr_F3 M hS k hk j hj).1 k hk).2.1
      have A1 : b3 (rr_kt M k i * 16 + k) = (T k).1 := Int32.le_antisymm (B i hi) (by rw [← hs]; exact k2)
      have A2 : ∀ j, j < 3 → q.testBit j = true → b3 (rr_kt M k j * 16 + k) = (T k).1 := fun j hj z => Int32.le_antisymm (B j hj) (by rw [← hA j hj z]; exact k5 _)
      refine rr_ct (u := (u.1, u.2.1, u.2.2.1, u.2.2.2.1, u.2.2.2.2.1, u.2.2.2.2.2.1, u.2.2.2.2.2.2.1, g, nI l', u.2.2.2.2.2.2.2.2.2.1, u.2.2.2.2.2.2.2.2.2.2.1, b3, b4, b5, u.2.2.2.2.2.2.2.2.2.2.2.2.2.2.1, u.2.2.2.2.2.2.2.2.2.2.2.2.2.2.2.1, u.2.2.2.2.2.2.2.2.2.2.2.2.2.2.2.2.1, u.2.2.2.2.2.2.2.2.2.2.2.2.2.2.2.2.2.1, u.2.2.2.2.2.2.2.2.2.2.2.2.2.2.2.2.2.2.1, u.2.2.2.2.2.2.2.2.2.2.2.2.2.2.2.2.2.2.2.1, u.2.2.2.2.2.2.2.2.2.2.2.2.2.2.2.2.2.2.2.2)) (l := l') rfl (by omega) (fun g2 l2 hl2 => br_f (by decide) ?_) (fun g2 l2 hl2 => br_t rfl ?_)
      · refine nm_r (e' := nI (q ||| 2 ^ i)) (by show u.2.2.2.1 ||| _ = _; rw [eq]; exact (rr_Q2 q hq i hi).1) (nm_r (nI_1 i) (hw (u.1, u.2.1, u.2.2.1, nI (q ||| 2 ^ i), u.2.2.2.2.1, u.2.2.2.2.2.1, u.2.2.2.2.2.2.1, g2, nI l2, u.2.2.2.2.2.2.2.2.2.1, u.2.2.2.2.2.2.2.2.2.2.1, b3, b4, b5, u.2.2.2.2.2.2.2.2.2.2.2.2.2.2.1, u.2.2.2.2.2.2.2.2.2.2.2.2.2.2.2.1, u.2.2.2.2.2.2.2.2.2.2.2.2.2.2.2.2.1, u.2.2.2.2.2.2.2.2.2.2.2.2.2.2.2.2.2.1, u.2.2.2.2.2.2.2.2.2.2.2.2.2.2.2.2.2.2.1, u.2.2.2.2.2.2.2.2.2.2.2.2.2.2.2.2.2.2.2.1, u.2.2.2.2.2.2.2.2.2.2.2.2.2.2.2.2.2.2.2.2) ⟨q ||| 2 ^ i, l2, ⟨hG, ⟨⟨l2, by omega, rfl⟩, k1⟩, hK, hn⟩, hs, (rr_Q2 q hq i hi).2, rfl, fun j hj z => ?_, by omega, rfl, ?_⟩))
        · rw [rr_Q2b q hq i hi j hj] at z
          by_cases e : j = i
          · rw [e]; exact A1
          · refine A2 j hj ?_
            simpa [e] using z
        · rcases hP with hP | hP
          · exact Or.inl (by omega)
          · refine Or.inr (fun j hj z => ?_)
            rw [rr_Q2b q hq i hi j (by omega)]
            by_cases e : j = i
            · simp [e]
            · rw [hP j (by omega) z]; rfl
      · refine nm_r (e' := nI q) (by show u.2.2.2.1 ||| _ = _; rw [eq]; exact rr_Q3 q hq) (nm_r (nI_1 i) (hw (u.1, u.2.1, u.2.2.1, nI q, u.2.2.2.2.1, u.2.2.2.2.2.1, u.2.2.2.2.2.2.1, g2, nI l2, u.2.2.2.2.2.2.2.2.2.1, u.2.2.2.2.2.2.2.2.2.2.1, b3, b4, b5, u.2.2.2.2.2.2.2.2.2.2.2.2.2.2.1, u.2.2.2.2.2.2.2.2.2.2.2.2.2.2.2.1, u.2.2.2.2.2.2.2.2.2.2.2.2.2.2.2.2.1, u.2.2.2.2.2.2.2.2.2.2.2.2.2.2.2.2.2.1, u.2.2.2.2.2.2.2.2.2.2.2.2.2.2.2.2.2.2.1, u.2.2.2.2.2.2.2.2.2.2.2.2.2.2.2.2.2.2.2.1, u.2.2.2.2.2.2.2.2.2.2.2.2.2.2.2.2.2.2.2.2) ⟨q, l2, ⟨hG, ⟨⟨l2, by omega, rfl⟩, k1⟩, hK, hn⟩, hs, hq, rfl, A2, by omega, rfl, Or.inl (by omega)⟩))
    · refine nm_r (nI_1 i) (hw u ⟨q, l, ⟨hG, ⟨⟨l, by omega, el⟩, hC⟩, hK, hn⟩, hs, hq, eq, hA, hl, el, ?_⟩)
      rcases hP with hP | hP
      · exact Or.inl hP
      · refine Or.inr (fun j hj z => ?_)
        by_cases e : j = i
        · rw [e, ← hws] at z
          have z' : rr_bit u.2.1 (rr_kt M k i) = true := z
          have hb' : rr_bit u.2.1 (rr_kt M k i) = false := hb
          rw [hb'] at z'
          exact absurd z' (by decide)
        · exact hP j (by omega) z
/-- a write of the newest until e have confirmed -/
theorem rr_writeNewest {post : St2 → Prop} {u : St2} {M k c e : Nat} {w : Int32} {T : Nat → Int32 × Int32 × Int32} {H : Nat → Nat → Prop} (hS : M ∈ rr_sets) (hE : rr_en w M k e) (he : e ≤ 3) (hk : k < 16) (hc : c < 6) (hR : rr_R M w T H k u) (hs : u.2.2.2.2.1 = (T k).1)
    (h : ∀ u q, rr_G M w u → rr_B T H u → q < 8 → e ≤ rr_pc q → (∀ j, j < 3 → q.testBit j = true → u.2.2.2.2.2.2.2.2.2.2.2.1 (rr_kt M k j * 16 + k) = (T k).1) → post u) : wpX_writeNewest post u (nI c) (nI k) (nI e) := by
  obtain ⟨u_ms, u_ws, u_rs, u_an, u_ns, u_nv, u_nt, u_mg, u_ll, u_a1, u_a2, u_a3, u_a4, u_a5, u_a6, u_a7, u_a8, u_a9, u_a10, u_a11, u_a12⟩ := u
  obtain ⟨hG, ⟨⟨l, hl, el⟩, hC⟩, hK, hn⟩ := hR
  refine pk_loop (fun n r (u : St2) => wX_writeNewest_8 post (nI c) (nI k) (nI e) n (nI r) u.1 u.2.1 u.2.2.1 u.2.2.2.1 u.2.2.2.2.1 u.2.2.2.2.2.1 u.2.2.2.2.2.2.1 u.2.2.2.2.2.2.2.1 u.2.2.2.2.2.2.2.2.1 u.2.2.2.2.2.2.2.2.2.1 u.2.2.2.2.2.2.2.2.2.2.1 u.2.2.2.2.2.2.2.2.2.2.2.1 u.2.2.2.2.2.2.2.2.2.2.2.2.1 u.2.2.2.2.2.2.2.2.2.2.2.2.2.1 u.2.2.2.2.2.2.2.2.2.2.2.2.2.2.1 u.2.2.2.2.2.2.2.2.2.2.2.2.2.2.2.1 u.2.2.2.2.2.2.2.2.2.2.2.2.2.2.2.2.1 u.2.2.2.2.2.2.2.2.2.2.2.2.2.2.2.2.2.1 u.2.2.2.2.2.2.2.2.2.2.2.2.2.2.2.2.2.2.1 u.2.2.2.2.2.2.2.2.2.2.2.2.2.2.2.2.2.2.2.1 u.2.2.2.2.2.2.2.2.2.2.2.2.2.2.2.2.2.2.2.2)
    (fun r u => ∃ q l, rr_R M w T H k u ∧ u.2.2.2.2.1 = (T k).1 ∧ q < 8 ∧ u.2.2.2.1 = nI q ∧ (∀ j, j < 3 → q.testBit j = true → u.2.2.2.2.2.2.2.2.2.2.2.1 (rr_kt M k j * 16 + k) = (T k).1) ∧ l ≤ 30 ∧ u.2.2.2.2.2.2.2.2.1 = nI l ∧ (e ≤ rr_pc q ∨ r + l ≤ 30)) 80 0 (u_ms, u_ws, u_rs, 0, u_ns, u_nv, u_nt, u_mg, u_ll, u_a1, u_a2, u_a3, u_a4, u_a5, u_a6, u_a7, u_a8, u_a9, u_a10, u_a11, u_a12) (by omega)
    ⟨0, l, ⟨hG, ⟨⟨l, hl, el⟩, hC⟩, hK, hn⟩, hs, by omega, rfl, fun j _ z => absurd z (by simp), hl, el, Or.inr (by omega)⟩ ?_ ?_
  · intro n u ⟨q, l, hR, hs, hq, eq, hA, hl, el, hP⟩
    refine br_t (Int32.le_refl _) (rr_wr121 hS hk hc (q := q) (fun u' g1 g2 g3 => h u' q g1 g2 hq ?_ g3) hR hA)
    rcases hP with hP | hP
    · exact hP
    · omega
  · intro n r u hr ⟨q, l, hR, hs, hq, eq, hA, hl, el, hP⟩ hw
    have P3 := rr_P3 q hq
    refine br_f (nI_ge (b := 80) hr (by decide)) (rr_onesW (pk_le e (rr_pc q) (fun z => rr_wr121 hS hk hc (q := q) (fun u' g1 g2 g3 => h u' q g1 g2 hq z g3) hR hA) (fun z => ?_) rfl (by rw [eq]; exact P3.1)))
    refine rr_wr29 hS hk (l0 := l) (fun u' q' l' hR' hs' hq' eq' hA' hl' el' hP' => hw u' ⟨q', l', hR', hs', hq', eq', hA', by omega, el', ?_⟩) hR hs hq eq hA hl el
    rcases hP' with hP' | hP'
    · right; omega
    · left; exact hE q' hq' hP'
end
section
/-- inside an exchange of the key k between m1 and m2: what has gone there, what has come back -/
def rr_X (M : Nat) (w : Int32) (T : Nat → Int32 × Int32 × Int32) (H : Nat → Nat → Prop) (m1 m2 k : Nat) (x4 x5 : Int32) (u : St2) : Prop :=
  rr_G M w u ∧ rr_C T H u.2.2.2.2.2.2.2.2.2.2.2.1 u.2.2.2.2.2.2.2.2.2.2.2.2.1 u.2.2.2.2.2.2.2.2.2.2.2.2.2.1 u.2.2.2.2.2.2.2.2.2.2.2.2.2.2.1 u.2.2.2.2.2.2.2.2.2.2.2.2.2.2.2.1 u.2.2.2.2.2.2.2.2.2.2.2.2.2.2.2.2.1 ∧ (¬ x4 = 0 → u.2.2.2.2.2.2.2.2.2.2.2.1 (m1 * 16 + k) ≤ u.2.2.2.2.2.2.2.2.2.2.2.1 (m2 * 16 + k)) ∧ (¬ x5 = 0 → u.2.2.2.2.2.2.2.2.2.2.2.1 (m2 * 16 + k) ≤ u.2.2.2.2.2.2.2.2.2.2.2.1 (m1 * 16 + k))
/-- m1 tells m2 -/
theorem rr_tell {post : St2 → Prop} {u : St2} {T : Nat → Int32 × Int32 × Int32} {H : Nat → Nat → Prop} {m1 m2 k : Nat} (h12 : m1 ≠ m2) (hm1 : m1 < 6) (hm2 : m2 < 6) (hk : k < 16) (hC : rr_C T H u.2.2.2.2.2.2.2.2.2.2.2.1 u.2.2.2.2.2.2.2.2.2.2.2.2.1 u.2.2.2.2.2.2.2.2.2.2.2.2.2.1 u.2.2.2.2.2.2.2.2.2.2.2.2.2.2.1 u.2.2.2.2.2.2.2.2.2.2.2.2.2.2.2.1 u.2.2.2.2.2.2.2.2.2.2.2.2.2.2.2.2.1)
    (h : ∀ s v b b3 b4 b5, rr_C T H b3 b4 b5 u.2.2.2.2.2.2.2.2.2.2.2.2.2.2.1 u.2.2.2.2.2.2.2.2.2.2.2.2.2.2.2.1 u.2.2.2.2.2.2.2.2.2.2.2.2.2.2.2.2.1 → b3 (m1 * 16 + k) = u.2.2.2.2.2.2.2.2.2.2.2.1 (m1 * 16 + k) → u.2.2.2.2.2.2.2.2.2.2.2.1 (m1 * 16 + k) ≤ b3 (m2 * 16 + k) → (b3 (m2 * 16 + k) = u.2.2.2.2.2.2.2.2.2.2.2.1 (m2 * 16 + k) ∨ b3 (m2 * 16 + k) = u.2.2.2.2.2.2.2.2.2.2.2.1 (m1 * 16 + k)) → post (u.1, u.2.1, u.2.2.1, 0, s, v, b, u.2.2.2.2.2.2.2.1, u.2.2.2.2.2.2.2.2.1, u.2.2.2.2.2.2.2.2.2.1, u.2.2.2.2.2.2.2.2.2.2.1, b3, b4, b5, u.2.2.2.2.2.2.2.2.2.2.2.2.2.2.1, u.2.2.2.2.2.2.2.2.2.2.2.2.2.2.2.1, u.2.2.2.2.2.2.2.2.2.2.2.2.2.2.2.2.1, u.2.2.2.2.2.2.2.2.2.2.2.2.2.2.2.2.2.1, u.2.2.2.2.2.2.2.2.2.2.2.2.2.2.2.2.2.2.1, u.2.2.2.2.2.2.2.2.2.2.2.2.2.2.2.2.2.2.2.1, u.2.2.2.2.2.2.2.2.2.2.2.2.2.2.2.2.2.2.2.2)) :
    wpX_startWork (fun u => wpX_hear (fun u => wpX_store post u (nI m2) (nI k)) u (nI m1) (nI k)) u := by
  have hne : m1 * 16 + k ≠ m2 * 16 + k := by omega
  have o := hC.1 m1 hm1 k hk
  refine rr_startWork (rr_hear (u := (u.1, u.2.1, u.2.2.1, 0, 0, 0, 0, u.2.2.2.2.2.2.2.1, u.2.2.2.2.2.2.2.2.1, u.2.2.2.2.2.2.2.2.2.1, u.2.2.2.2.2.2.2.2.2.2.1, u.2.2.2.2.2.2.2.2.2.2.2.1, u.2.2.2.2.2.2.2.2.2.2.2.2.1, u.2.2.2.2.2.2.2.2.2.2.2.2.2.1, u.2.2.2.2.2.2.2.2.2.2.2.2.2.2.1, u.2.2.2.2.2.2.2.2.2.2.2.2.2.2.2.1, u.2.2.2.2.2.2.2.2.2.2.2.2.2.2.2.2.1, u.2.2.2.2.2.2.2.2.2.2.2.2.2.2.2.2.2.1, u.2.2.2.2.2.2.2.2.2.2.2.2.2.2.2.2.2.2.1, u.2.2.2.2.2.2.2.2.2.2.2.2.2.2.2.2.2.2.2.1, u.2.2.2.2.2.2.2.2.2.2.2.2.2.2.2.2.2.2.2.2)) hm1 hk hC (rr_o_0 (rr_o_T o)) (fun s v b k1 k2 k3 k4 => ?_))
  have es : s = u.2.2.2.2.2.2.2.2.2.2.2.1 (m1 * 16 + k) := by
    rcases k4 with z | z
    · have z' : s = 0 := z
      refine Int32.le_antisymm ?_ k2
      rw [z']; exact o.1
    · exact z
  refine rr_store (u := (u.1, u.2.1, u.2.2.1, 0, s, v, b, u.2.2.2.2.2.2.2.1, u.2.2.2.2.2.2.2.2.1, u.2.2.2.2.2.2.2.2.2.1, u.2.2.2.2.2.2.2.2.2.2.1, u.2.2.2.2.2.2.2.2.2.2.2.1, u.2.2.2.2.2.2.2.2.2.2.2.2.1, u.2.2.2.2.2.2.2.2.2.2.2.2.2.1, u.2.2.2.2.2.2.2.2.2.2.2.2.2.2.1, u.2.2.2.2.2.2.2.2.2.2.2.2.2.2.2.1, u.2.2.2.2.2.2.2.2.2.2.2.2.2.2.2.2.1, u.2.2.2.2.2.2.2.2.2.2.2.2.2.2.2.2.2.1, u.2.2.2.2.2.2.2.2.2.2.2.2.2.2.2.2.2.2.1, u.2.2.2.2.2.2.2.2.2.2.2.2.2.2.2.2.2.2.2.1, u.2.2.2.2.2.2.2.2.2.2.2.2.2.2.2.2.2.2.2.2)) hm2 hk hC k1 (fun b3 b4 b5 c1 c2 c3 c4 _ => h s v b b3 b4 b5 c1 (c4 _ hne) ?_ ?_)
  · rw [← es]; exact c2
  · rw [← es]; exact c3
theorem rr_ex59 {post : St2 → Prop} {J : Int32 → Int32 → Int32 → Int32 → Int32 → Int32 → Int32 → Int32 → Int32 → Int32 → Int32 → Int32 → (Nat → Int32) → (Nat → Int32) → (Nat → Int32) → (Nat → Int32) → (Nat → Int32) → (Nat → Int32) → (Nat → Int32) → (Nat → Int32) → (Nat → Int32) → (Nat → Int32) → (Nat → Int32) → (Nat → Int32) → Prop}
    {u : St2} {M m1 m2 k r l : Nat} {w x4 x5 : Int32} {T : Nat → Int32 × Int32 × Int32} {H : Nat → Nat → Prop} (h12 : m1 ≠ m2) (hm1 : m1 < 6) (hm2 : m2 < 6) (hk : k < 16)
    (h : ∀ (x5 : Int32) (u : St2) (l' : Nat), rr_X M w T H m1 m2 k x4 x5 u → u.2.2.2.2.2.2.2.2.1 = nI l' → l' ≤ l → (l' < l ∨ ¬ x5 = 0) → J x4 x5 (nI (r + 1)) u.1 u.2.1 u.2.2.1 u.2.2.2.1 u.2.2.2.2.1 u.2.2.2.2.2.1 u.2.2.2.2.2.2.1 u.2.2.2.2.2.2.2.1 u.2.2.2.2.2.2.2.2.1 u.2.2.2.2.2.2.2.2.2.1 u.2.2.2.2.2.2.2.2.2.2.1 u.2.2.2.2.2.2.2.2.2.2.2.1 u.2.2.2.2.2.2.2.2.2.2.2.2.1 u.2.2.2.2.2.2.2.2.2.2.2.2.2.1 u.2.2.2.2.2.2.2.2.2.2.2.2.2.2.1 u.2.2.2.2.2.2.2.2.2.2.2.2.2.2.2.1 u.2.2.2.2.2.2.2.2.2.2.2.2.2.2.2.2.1 u.2.2.2.2.2.2.2.2.2.2.2.2.2.2.2.2.2.1 u.2.2.2.2.2.2.2.2.2.2.2.2.2.2.2.2.2.2.1 u.2.2.2.2.2.2.2.2.2.2.2.2.2.2.2.2.2.2.2.1 u.2.2.2.2.2.2.2.2.2.2.2.2.2.2.2.2.2.2.2.2)
    (hX : rr_X M w T H m1 m2 k x4 x5 u) (el : u.2.2.2.2.2.2.2.2.1 = nI l) (hl : l ≤ 30) : wX_exchange_59 post J (nI m1) (nI m2) (nI k) x4 x5 (nI r) u.1 u.2.1 u.2.2.1 u.2.2.2.1 u.2.2.2.2.1 u.2.2.2.2.2.1 u.2.2.2.2.2.2.1 u.2.2.2.2.2.2.2.1 u.2.2.2.2.2.2.2.2.1 u.2.2.2.2.2.2.2.2.2.1 u.2.2.2.2.2.2.2.2.2.2.1 u.2.2.2.2.2.2.2.2.2.2.2.1 u.2.2.2.2.2.2.2.2.2.2.2.2.1 u.2.2.2.2.2.2.2.2.2.2.2.2.2.1 u.2.2.2.2.2.2.2.2.2.2.2.2.2.2.1 u.2.2.2.2.2.2.2.2.2.2.2.2.2.2.2.1 u.2.2.2.2.2.2.2.2.2.2.2.2.2.2.2.2.1 u.2.2.2.2.2.2.2.2.2.2.2.2.2.2.2.2.2.1 u.2.2.2.2.2.2.2.2.2.2.2.2.2.2.2.2.2.2.1 u.2.2.2.2.2.2.2.2.2.2.2.2.2.2.2.2.2.2.2.1 u.2.2.2.2.2.2.2.2.2.2.2.2.2.2.2.2.2.2.2.2 := by
  obtain ⟨hG, hC, e4, e5⟩ := hX
  refine br_c (fun z => rr_ct el hl (fun g l' hl' => br_f (by decide) ?_) (fun g l' hl' => br_t rfl (nm_r (nI_1 r) (h x5 (u.1, u.2.1, u.2.2.1, u.2.2.2.1, u.2.2.2.2.1, u.2.2.2.2.2.1, u.2.2.2.2.2.2.1, g, nI l', u.2.2.2.2.2.2.2.2.2.1, u.2.2.2.2.2.2.2.2.2.2.1, u.2.2.2.2.2.2.2.2.2.2.2.1, u.2.2.2.2.2.2.2.2.2.2.2.2.1, u.2.2.2.2.2.2.2.2.2.2.2.2.2.1, u.2.2.2.2.2.2.2.2.2.2.2.2.2.2.1, u.2.2.2.2.2.2.2.2.2.2.2.2.2.2.2.1, u.2.2.2.2.2.2.2.2.2.2.2.2.2.2.2.2.1, u.2.2.2.2.2.2.2.2.2.2.2.2.2.2.2.2.2.1, u.2.2.2.2.2.2.2.2.2.2.2.2.2.2.2.2.2.2.1, u.2.2.2.2.2.2.2.2.2.2.2.2.2.2.2.2.2.2.2.1, u.2.2.2.2.2.2.2.2.2.2.2.2.2.2.2.2.2.2.2.2) l' ⟨hG, hC, e4, e5⟩ rfl (by omega) (Or.inl hl'))))) (fun z => nm_r (nI_1 r) (h x5 u l ⟨hG, hC, e4, e5⟩ el (Nat.le_refl l) (Or.inr z)))
  refine rr_tell (u := (u.1, u.2.1, u.2.2.1, u.2.2.2.1, u.2.2.2.2.1, u.2.2.2.2.2.1, u.2.2.2.2.2.2.1, g, nI l', u.2.2.2.2.2.2.2.2.2.1, u.2.2.2.2.2.2.2.2.2.2.1, u.2.2.2.2.2.2.2.2.2.2.2.1, u.2.2.2.2.2.2.2.2.2.2.2.2.1, u.2.2.2.2.2.2.2.2.2.2.2.2.2.1, u.2.2.2.2.2.2.2.2.2.2.2.2.2.2.1, u.2.2.2.2.2.2.2.2.2.2.2.2.2.2.2.1, u.2.2.2.2.2.2.2.2.2.2.2.2.2.2.2.2.1, u.2.2.2.2.2.2.2.2.2.2.2.2.2.2.2.2.2.1, u.2.2.2.2.2.2.2.2.2.2.2.2.2.2.2.2.2.2.1, u.2.2.2.2.2.2.2.2.2.2.2.2.2.2.2.2.2.2.2.1, u.2.2.2.2.2.2.2.2.2.2.2.2.2.2.2.2.2.2.2.2)) (Ne.symm h12) hm2 hm1 hk hC (fun s v b b3 b4 b5 c1 c2 c3 c4 => nm_r (nI_1 r) (h 1 (u.1, u.2.1, u.2.2.1, 0, s, v, b, g, nI l', u.2.2.2.2.2.2.2.2.2.1, u.2.2.2.2.2.2.2.2.2.2.1, b3, b4, b5, u.2.2.2.2.2.2.2.2.2.2.2.2.2.2.1, u.2.2.2.2.2.2.2.2.2.2.2.2.2.2.2.1, u.2.2.2.2.2.2.2.2.2.2.2.2.2.2.2.2.1, u.2.2.2.2.2.2.2.2.2.2.2.2.2.2.2.2.2.1, u.2.2.2.2.2.2.2.2.2.2.2.2.2.2.2.2.2.2.1, u.2.2.2.2.2.2.2.2.2.2.2.2.2.2.2.2.2.2.2.1, u.2.2.2.2.2.2.2.2.2.2.2.2.2.2.2.2.2.2.2.2) l' ⟨hG, c1, fun z4 => ?_, fun _ => ?_⟩ rfl hl' (Or.inr (by decide))))
  · show b3 (m1 * 16 + k) ≤ b3 (m2 * 16 + k)
    rw [c2]
    rcases c4 with y | y
    · rw [y]; exact e4 z4
    · rw [y]; exact Int32.le_refl _
  · show b3 (m2 * 16 + k) ≤ b3 (m1 * 16 + k)
    rw [c2]; exact c3
theorem rr_ex26 {post : St2 → Prop} {J : Int32 → Int32 → Int32 → Int32 → Int32 → Int32 → Int32 → Int32 → Int32 → Int32 → Int32 → Int32 → (Nat → Int32) → (Nat → Int32) → (Nat → Int32) → (Nat → Int32) → (Nat → Int32) → (Nat → Int32) → (Nat → Int32) → (Nat → Int32) → (Nat → Int32) → (Nat → Int32) → (Nat → Int32) → (Nat → Int32) → Prop}
    {u : St2} {M m1 m2 k r l : Nat} {w x4 x5 : Int32} {T : Nat → Int32 × Int32 × Int32} {H : Nat → Nat → Prop} (h12 : m1 ≠ m2) (hm1 : m1 < 6) (hm2 : m2 < 6) (hk : k < 16)
    (h : ∀ (x4 x5 : Int32) (u : St2) (l' : Nat), rr_X M w T H m1 m2 k x4 x5 u → u.2.2.2.2.2.2.2.2.1 = nI l' → l' ≤ l → (l' < l ∨ (¬ x4 = 0 ∧ ¬ x5 = 0)) → J x4 x5 (nI (r + 1)) u.1 u.2.1 u.2.2.1 u.2.2.2.1 u.2.2.2.2.1 u.2.2.2.2.2.1 u.2.2.2.2.2.2.1 u.2.2.2.2.2.2.2.1 u.2.2.2.2.2.2.2.2.1 u.2.2.2.2.2.2.2.2.2.1 u.2.2.2.2.2.2.2.2.2.2.1 u.2.2.2.2.2.2.2.2.2.2.2.1 u.2.2.2.2.2.2.2.2.2.2.2.2.1 u.2.2.2.2.2.2.2.2.2.2.2.2.2.1 u.2.2.2.2.2.2.2.2.2.2.2.2.2.2.1 u.2.2.2.2.2.2.2.2.2.2.2.2.2.2.2.1 u.2.2.2.2.2.2.2.2.2.2.2.2.2.2.2.2.1 u.2.2.2.2.2.2.2.2.2.2.2.2.2.2.2.2.2.1 u.2.2.2.2.2.2.2.2.2.2.2.2.2.2.2.2.2.2.1 u.2.2.2.2.2.2.2.2.2.2.2.2.2.2.2.2.2.2.2.1 u.2.2.2.2.2.2.2.2.2.2.2.2.2.2.2.2.2.2.2.2)
    (hX : rr_X M w T H m1 m2 k x4 x5 u) (el : u.2.2.2.2.2.2.2.2.1 = nI l) (hl : l ≤ 30) : wX_exchange_26 post J (nI m1) (nI m2) (nI k) x4 x5 (nI r) u.1 u.2.1 u.2.2.1 u.2.2.2.1 u.2.2.2.2.1 u.2.2.2.2.2.1 u.2.2.2.2.2.2.1 u.2.2.2.2.2.2.2.1 u.2.2.2.2.2.2.2.2.1 u.2.2.2.2.2.2.2.2.2.1 u.2.2.2.2.2.2.2.2.2.2.1 u.2.2.2.2.2.2.2.2.2.2.2.1 u.2.2.2.2.2.2.2.2.2.2.2.2.1 u.2.2.2.2.2.2.2.2.2.2.2.2.2.1 u.2.2.2.2.2.2.2.2.2.2.2.2.2.2.1 u.2.2.2.2.2.2.2.2.2.2.2.2.2.2.2.1 u.2.2.2.2.2.2.2.2.2.2.2.2.2.2.2.2.1 u.2.2.2.2.2.2.2.2.2.2.2.2.2.2.2.2.2.1 u.2.2.2.2.2.2.2.2.2.2.2.2.2.2.2.2.2.2.1 u.2.2.2.2.2.2.2.2.2.2.2.2.2.2.2.2.2.2.2.1 u.2.2.2.2.2.2.2.2.2.2.2.2.2.2.2.2.2.2.2.2 := by
  obtain ⟨hG, hC, e4, e5⟩ := hX
  refine br_c (fun z => rr_ct el hl (fun g l' hl' => br_f (by decide) ?_) (fun g l' hl' => br_t rfl ?_)) (fun z => ?_)
  · refine rr_tell (u := (u.1, u.2.1, u.2.2.1, u.2.2.2.1, u.2.2.2.2.1, u.2.2.2.2.2.1, u.2.2.2.2.2.2.1, g, nI l', u.2.2.2.2.2.2.2.2.2.1, u.2.2.2.2.2.2.2.2.2.2.1, u.2.2.2.2.2.2.2.2.2.2.2.1, u.2.2.2.2.2.2.2.2.2.2.2.2.1, u.2.2.2.2.2.2.2.2.2.2.2.2.2.1, u.2.2.2.2.2.2.2.2.2.2.2.2.2.2.1, u.2.2.2.2.2.2.2.2.2.2.2.2.2.2.2.1, u.2.2.2.2.2.2.2.2.2.2.2.2.2.2.2.2.1, u.2.2.2.2.2.2.2.2.2.2.2.2.2.2.2.2.2.1, u.2.2.2.2.2.2.2.2.2.2.2.2.2.2.2.2.2.2.1, u.2.2.2.2.2.2.2.2.2.2.2.2.2.2.2.2.2.2.2.1, u.2.2.2.2.2.2.2.2.2.2.2.2.2.2.2.2.2.2.2.2)) h12 hm1 hm2 hk hC (fun s v b b3 b4 b5 c1 c2 c3 c4 => rr_ex59 (u := (u.1, u.2.1, u.2.2.1, 0, s, v, b, g, nI l', u.2.2.2.2.2.2.2.2.2.1, u.2.2.2.2.2.2.2.2.2.2.1, b3, b4, b5, u.2.2.2.2.2.2.2.2.2.2.2.2.2.2.1, u.2.2.2.2.2.2.2.2.2.2.2.2.2.2.2.1, u.2.2.2.2.2.2.2.2.2.2.2.2.2.2.2.2.1, u.2.2.2.2.2.2.2.2.2.2.2.2.2.2.2.2.2.1, u.2.2.2.2.2.2.2.2.2.2.2.2.2.2.2.2.2.2.1, u.2.2.2.2.2.2.2.2.2.2.2.2.2.2.2.2.2.2.2.1, u.2.2.2.2.2.2.2.2.2.2.2.2.2.2.2.2.2.2.2.2)) (l := l') h12 hm1 hm2 hk (fun y5 u' l2 q1 q2 q3 q4 => h 1 y5 u' l2 q1 q2 (by omega) ?_) ⟨hG, c1, fun _ => ?_, fun z5 => ?_⟩ rfl (by omega))
    · rcases q4 with q4 | q4
      · exact Or.inl (by omega)
      · exact Or.inr ⟨by decide, q4⟩
    · show b3 (m1 * 16 + k) ≤ b3 (m2 * 16 + k)
      rw [c2]; exact c3
    · show b3 (m2 * 16 + k) ≤ b3 (m1 * 16 + k)
      rw [c2]
      rcases c4 with y | y
      · rw [y]; exact e5 z5
      · rw [y]; exact Int32.le_refl _
  · exact rr_ex59 (u := (u.1, u.2.1, u.2.2.1, u.2.2.2.1, u.2.2.2.2.1, u.2.2.2.2.2.1, u.2.2.2.2.2.2.1, g, nI l', u.2.2.2.2.2.2.2.2.2.1, u.2.2.2.2.2.2.2.2.2.2.1, u.2.2.2.2.2.2.2.2.2.2.2.1, u.2.2.2.2.2.2.2.2.2.2.2.2.1, u.2.2.2.2.2.2.2.2.2.2.2.2.2.1, u.2.2.2.2.2.2.2.2.2.2.2.2.2.2.1, u.2.2.2.2.2.2.2.2.2.2.2.2.2.2.2.1, u.2.2.2.2.2.2.2.2.2.2.2.2.2.2.2.2.1, u.2.2.2.2.2.2.2.2.2.2.2.2.2.2.2.2.2.1, u.2.2.2.2.2.2.2.2.2.2.2.2.2.2.2.2.2.2.1, u.2.2.2.2.2.2.2.2.2.2.2.2.2.2.2.2.2.2.2.1, u.2.2.2.2.2.2.2.2.2.2.2.2.2.2.2.2.2.2.2.2)) (l := l') h12 hm1 hm2 hk (fun y5 u' l2 q1 q2 q3 q4 => h x4 y5 u' l2 q1 q2 (by omega) (Or.inl (by omega))) ⟨hG, hC, e4, e5⟩ rfl (by omega)
  · refine rr_ex59 (u := u) (l := l) h12 hm1 hm2 hk (fun y5 u' l2 q1 q2 q3 q4 => h x4 y5 u' l2 q1 q2 q3 ?_) ⟨hG, hC, e4, e5⟩ el hl
    rcases q4 with q4 | q4
    · exact Or.inl q4
    · exact Or.inr ⟨z, q4⟩
theorem rr_exchange {post : St2 → Prop} {u : St2} {M m1 m2 k : Nat} {w : Int32} {T : Nat → Int32 × Int32 × Int32} {H : Nat → Nat → Prop} (h12 : m1 ≠ m2) (hm1 : m1 < 6) (hm2 : m2 < 6) (hk : k < 16) (hG : rr_G M w u) (hB : rr_B T H u)
    (h : ∀ u, rr_G M w u → rr_B T H u → u.2.2.2.2.2.2.2.2.2.2.2.1 (m1 * 16 + k) = u.2.2.2.2.2.2.2.2.2.2.2.1 (m2 * 16 + k) → post u) : wpX_exchange post u (nI m1) (nI m2) (nI k) := by
  obtain ⟨u_ms, u_ws, u_rs, u_an, u_ns, u_nv, u_nt, u_mg, u_ll, u_a1, u_a2, u_a3, u_a4, u_a5, u_a6, u_a7, u_a8, u_a9, u_a10, u_a11, u_a12⟩ := u
  obtain ⟨⟨l, hl, el⟩, hC⟩ := hB
  refine pk_loop (σ := Int32 × Int32 × St2) (fun n r s => wX_exchange_9 post (nI m1) (nI m2) (nI k) n s.1 s.2.1 (nI r) s.2.2.1 s.2.2.2.1 s.2.2.2.2.1 s.2.2.2.2.2.1 s.2.2.2.2.2.2.1 s.2.2.2.2.2.2.2.1 s.2.2.2.2.2.2.2.2.1 s.2.2.2.2.2.2.2.2.2.1 s.2.2.2.2.2.2.2.2.2.2.1 s.2.2.2.2.2.2.2.2.2.2.2.1 s.2.2.2.2.2.2.2.2.2.2.2.2.1 s.2.2.2.2.2.2.2.2.2.2.2.2.2.1 s.2.2.2.2.2.2.2.2.2.2.2.2.2.2.1 s.2.2.2.2.2.2.2.2.2.2.2.2.2.2.2.1 s.2.2.2.2.2.2.2.2.2.2.2.2.2.2.2.2.1 s.2.2.2.2.2.2.2.2.2.2.2.2.2.2.2.2.2.1 s.2.2.2.2.2.2.2.2.2.2.2.2.2.2.2.2.2.2.1 s.2.2.2.2.2.2.2.2.2.2.2.2.2.2.2.2.2.2.2.1 s.2.2.2.2.2.2.2.2.2.2.2.2.2.2.2.2.2.2.2.2.1 s.2.2.2.2.2.2.2.2.2.2.2.2.2.2.2.2.2.2.2.2.2.1 s.2.2.2.2.2.2.2.2.2.2.2.2.2.2.2.2.2.2.2.2.2.2)
    (fun r s => rr_X M w T H m1 m2 k s.1 s.2.1 s.2.2 ∧ ∃ l, l ≤ 30 ∧ s.2.2.2.2.2.2.2.2.2.2.1 = nI l ∧ ((¬ s.1 = 0 ∧ ¬ s.2.1 = 0) ∨ r + l ≤ 30)) 80 0 (0, 0, (u_ms, u_ws, u_rs, u_an, u_ns, u_nv, u_nt, u_mg, u_ll, u_a1, u_a2, u_a3, u_a4, u_a5, u_a6, u_a7, u_a8, u_a9, u_a10, u_a11, u_a12)) (by omega)
    ⟨⟨hG, hC, fun z => absurd rfl z, fun z => absurd rfl z⟩, l, hl, el, Or.inr (by omega)⟩ ?_ ?_
  · intro n s ⟨⟨hG, hC, e4, e5⟩, l, hl, el, hP⟩
    rcases hP with hP | hP
    · exact br_t (Int32.le_refl _) (h s.2.2 hG ⟨⟨l, hl, el⟩, hC⟩ (Int32.le_antisymm (e4 hP.1) (e5 hP.2)))
    · omega
  · intro n r s hr ⟨⟨hG, hC, e4, e5⟩, l, hl, el, hP⟩ hw
    have key : (¬ (¬ s.1 = 0 ∧ ¬ s.2.1 = 0)) → wX_exchange_26 post (wX_exchange_9 post (nI m1) (nI m2) (nI k) n) (nI m1) (nI m2) (nI k) s.1 s.2.1 (nI r) s.2.2.1 s.2.2.2.1 s.2.2.2.2.1 s.2.2.2.2.2.1 s.2.2.2.2.2.2.1 s.2.2.2.2.2.2.2.1 s.2.2.2.2.2.2.2.2.1 s.2.2.2.2.2.2.2.2.2.1 s.2.2.2.2.2.2.2.2.2.2.1 s.2.2.2.2.2.2.2.2.2.2.2.1 s.2.2.2.2.2.2.2.2.2.2.2.2.1 s.2.2.2.2.2.2.2.2.2.2.2.2.2.1 s.2.2.2.2.2.2.2.2.2.2.2.2.2.2.1 s.2.2.2.2.2.2.2.2.2.2.2.2.2.2.2.1 s.2.2.2.2.2.2.2.2.2.2.2.2.2.2.2.2.1 s.2.2.2.2.2.2.2.2.2.2.2.2.2.2.2.2.2.1 s.2.2.2.2.2.2.2.2.2.2.2.2.2.2.2.2.2.2.1 s.2.2.2.2.2.2.2.2.2.2.2.2.2.2.2.2.2.2.2.1 s.2.2.2.2.2.2.2.2.2.2.2.2.2.2.2.2.2.2.2.2.1 s.2.2.2.2.2.2.2.2.2.2.2.2.2.2.2.2.2.2.2.2.2.1 s.2.2.2.2.2.2.2.2.2.2.2.2.2.2.2.2.2.2.2.2.2.2 := by
      intro hne
      have hrl : r + l ≤ 30 := by
        rcases hP with hP | hP
        · exact absurd hP hne
        · exact hP
      refine rr_ex26 (u := s.2.2) (l := l) h12 hm1 hm2 hk (fun y4 y5 u' l' q1 q2 q3 q4 => hw (y4, y5, u') ⟨q1, l', by omega, q2, ?_⟩) ⟨hG, hC, e4, e5⟩ el hl
      rcases q4 with q4 | q4
      · right; omega
      · exact Or.inl q4
    refine br_f (nI_ge (b := 80) hr (by decide)) (br_c (fun z => key (fun y => y.1 z)) (fun z4 => br_c (fun z => key (fun y => y.2 z)) (fun z5 => ?_)))
    exact h s.2.2 hG ⟨⟨l, hl, el⟩, hC⟩ (Int32.le_antisymm (e4 z4) (e5 z5))
end
section
theorem rr_sumOf {post : Int32 → Prop} {a b c : Int32} (h : ∀ r, post r) : wpX_sumOf post () a b c :=
  nm_e (br_c (fun _ => h _) (fun _ => h _))
theorem rr_keepsV {post : Int32 → St2 → Prop} {u : St2} {M m k : Nat} {w : Int32} {T : Nat → Int32 × Int32 × Int32} {H : Nat → Nat → Prop} (hS : M ∈ rr_sets) (hm : m < 6) (hk : k < 16) (hG : rr_G M w u) (hB : rr_B T H u) (h1 : ∀ u, rr_G M w u → rr_B T H u → rr_kp M m k → post 1 u) (h0 : ∀ u, rr_G M w u → rr_B T H u → ¬ rr_kp M m k → post 0 u) : wpX_keeps post u (nI m) (nI k) :=
  rr_keeps hS hG hm hk (fun b9 z => h1 (u.1, u.2.1, u.2.2.1, u.2.2.2.1, u.2.2.2.2.1, u.2.2.2.2.2.1, u.2.2.2.2.2.2.1, u.2.2.2.2.2.2.2.1, u.2.2.2.2.2.2.2.2.1, u.2.2.2.2.2.2.2.2.2.1, u.2.2.2.2.2.2.2.2.2.2.1, u.2.2.2.2.2.2.2.2.2.2.2.1, u.2.2.2.2.2.2.2.2.2.2.2.2.1, u.2.2.2.2.2.2.2.2.2.2.2.2.2.1, u.2.2.2.2.2.2.2.2.2.2.2.2.2.2.1, u.2.2.2.2.2.2.2.2.2.2.2.2.2.2.2.1, u.2.2.2.2.2.2.2.2.2.2.2.2.2.2.2.2.1, b9, u.2.2.2.2.2.2.2.2.2.2.2.2.2.2.2.2.2.2.1, u.2.2.2.2.2.2.2.2.2.2.2.2.2.2.2.2.2.2.2.1, u.2.2.2.2.2.2.2.2.2.2.2.2.2.2.2.2.2.2.2.2) hG hB z) (fun b9 z => h0 (u.1, u.2.1, u.2.2.1, u.2.2.2.1, u.2.2.2.2.1, u.2.2.2.2.2.1, u.2.2.2.2.2.2.1, u.2.2.2.2.2.2.2.1, u.2.2.2.2.2.2.2.2.1, u.2.2.2.2.2.2.2.2.2.1, u.2.2.2.2.2.2.2.2.2.2.1, u.2.2.2.2.2.2.2.2.2.2.2.1, u.2.2.2.2.2.2.2.2.2.2.2.2.1, u.2.2.2.2.2.2.2.2.2.2.2.2.2.1, u.2.2.2.2.2.2.2.2.2.2.2.2.2.2.1, u.2.2.2.2.2.2.2.2.2.2.2.2.2.2.2.1, u.2.2.2.2.2.2.2.2.2.2.2.2.2.2.2.2.1, b9, u.2.2.2.2.2.2.2.2.2.2.2.2.2.2.2.2.2.2.1, u.2.2.2.2.2.2.2.2.2.2.2.2.2.2.2.2.2.2.2.1, u.2.2.2.2.2.2.2.2.2.2.2.2.2.2.2.2.2.2.2.2) hG hB z)
theorem rr_keepsbV {post : Int32 → St2 → Prop} {u : St2} {M m k : Nat} {w : Int32} {T : Nat → Int32 × Int32 × Int32} {H : Nat → Nat → Prop} (hS : M ∈ rr_sets) (hm : m < 6) (hk : k < 16) (hG : rr_G M w u) (hB : rr_B T H u) (h1 : ∀ u, rr_G M w u → rr_B T H u → rr_kp M m k → post 1 u) (h0 : ∀ u, rr_G M w u → rr_B T H u → ¬ rr_kp M m k → post 0 u) : wpX_keeps_2 post u (nI m) (nI k) :=
  rr_keepsb hS hG hm hk (fun b9 z => h1 (u.1, u.2.1, u.2.2.1, u.2.2.2.1, u.2.2.2.2.1, u.2.2.2.2.2.1, u.2.2.2.2.2.2.1, u.2.2.2.2.2.2.2.1, u.2.2.2.2.2.2.2.2.1, u.2.2.2.2.2.2.2.2.2.1, u.2.2.2.2.2.2.2.2.2.2.1, u.2.2.2.2.2.2.2.2.2.2.2.1, u.2.2.2.2.2.2.2.2.2.2.2.2.1, u.2.2.2.2.2.2.2.2.2.2.2.2.2.1, u.2.2.2.2.2.2.2.2.2.2.2.2.2.2.1, u.2.2.2.2.2.2.2.2.2.2.2.2.2.2.2.1, u.2.2.2.2.2.2.2.2.2.2.2.2.2.2.2.2.1, b9, u.2.2.2.2.2.2.2.2.2.2.2.2.2.2.2.2.2.2.1, u.2.2.2.2.2.2.2.2.2.2.2.2.2.2.2.2.2.2.2.1, u.2.2.2.2.2.2.2.2.2.2.2.2.2.2.2.2.2.2.2.2) hG hB z) (fun b9 z => h0 (u.1, u.2.1, u.2.2.1, u.2.2.2.1, u.2.2.2.2.1, u.2.2.2.2.2.1, u.2.2.2.2.2.2.1, u.2.2.2.2.2.2.2.1, u.2.2.2.2.2.2.2.2.1, u.2.2.2.2.2.2.2.2.2.1, u.2.2.2.2.2.2.2.2.2.2.1, u.2.2.2.2.2.2.2.2.2.2.2.1, u.2.2.2.2.2.2.2.2.2.2.2.2.1, u.2.2.2.2.2.2.2.2.2.2.2.2.2.1, u.2.2.2.2.2.2.2.2.2.2.2.2.2.2.1, u.2.2.2.2.2.2.2.2.2.2.2.2.2.2.2.1, u.2.2.2.2.2.2.2.2.2.2.2.2.2.2.2.2.1, b9, u.2.2.2.2.2.2.2.2.2.2.2.2.2.2.2.2.2.2.1, u.2.2.2.2.2.2.2.2.2.2.2.2.2.2.2.2.2.2.2.1, u.2.2.2.2.2.2.2.2.2.2.2.2.2.2.2.2.2.2.2.2) hG hB z)
theorem rr_keepscV {post : Int32 → St2 → Prop} {u : St2} {M m k : Nat} {w : Int32} {T : Nat → Int32 × Int32 × Int32} {H : Nat → Nat → Prop} (hS : M ∈ rr_sets) (hm : m < 6) (hk : k < 16) (hG : rr_G M w u) (hB : rr_B T H u) (h1 : ∀ u, rr_G M w u → rr_B T H u → rr_kp M m k → post 1 u) (h0 : ∀ u, rr_G M w u → rr_B T H u → ¬ rr_kp M m k → post 0 u) : wpX_keeps_3 post u (nI m) (nI k) :=
  rr_keepsc hS hG hm hk (fun b9 z => h1 (u.1, u.2.1, u.2.2.1, u.2.2.2.1, u.2.2.2.2.1, u.2.2.2.2.2.1, u.2.2.2.2.2.2.1, u.2.2.2.2.2.2.2.1, u.2.2.2.2.2.2.2.2.1, u.2.2.2.2.2.2.2.2.2.1, u.2.2.2.2.2.2.2.2.2.2.1, u.2.2.2.2.2.2.2.2.2.2.2.1, u.2.2.2.2.2.2.2.2.2.2.2.2.1, u.2.2.2.2.2.2.2.2.2.2.2.2.2.1, u.2.2.2.2.2.2.2.2.2.2.2.2.2.2.1, u.2.2.2.2.2.2.2.2.2.2.2.2.2.2.2.1, u.2.2.2.2.2.2.2.2.2.2.2.2.2.2.2.2.1, b9, u.2.2.2.2.2.2.2.2.2.2.2.2.2.2.2.2.2.2.1, u.2.2.2.2.2.2.2.2.2.2.2.2.2.2.2.2.2.2.2.1, u.2.2.2.2.2.2.2.2.2.2.2.2.2.2.2.2.2.2.2.2) hG hB z) (fun b9 z => h0 (u.1, u.2.1, u.2.2.1, u.2.2.2.1, u.2.2.2.2.1, u.2.2.2.2.2.1, u.2.2.2.2.2.2.1, u.2.2.2.2.2.2.2.1, u.2.2.2.2.2.2.2.2.1, u.2.2.2.2.2.2.2.2.2.1, u.2.2.2.2.2.2.2.2.2.2.1, u.2.2.2.2.2.2.2.2.2.2.2.1, u.2.2.2.2.2.2.2.2.2.2.2.2.1, u.2.2.2.2.2.2.2.2.2.2.2.2.2.1, u.2.2.2.2.2.2.2.2.2.2.2.2.2.2.1, u.2.2.2.2.2.2.2.2.2.2.2.2.2.2.2.1, u.2.2.2.2.2.2.2.2.2.2.2.2.2.2.2.2.1, b9, u.2.2.2.2.2.2.2.2.2.2.2.2.2.2.2.2.2.2.1, u.2.2.2.2.2.2.2.2.2.2.2.2.2.2.2.2.2.2.2.1, u.2.2.2.2.2.2.2.2.2.2.2.2.2.2.2.2.2.2.2.2) hG hB z)
theorem rr_leaf31 {post : Int32 → St2 → Prop} {u : St2} {j : Nat} {z0 : Int32} (hj : j < 96) (h : ∀ r, post r u) : wX_leaf_31 post (nI j) z0 u.1 u.2.1 u.2.2.1 u.2.2.2.1 u.2.2.2.2.1 u.2.2.2.2.2.1 u.2.2.2.2.2.2.1 u.2.2.2.2.2.2.2.1 u.2.2.2.2.2.2.2.2.1 u.2.2.2.2.2.2.2.2.2.1 u.2.2.2.2.2.2.2.2.2.2.1 u.2.2.2.2.2.2.2.2.2.2.2.1 u.2.2.2.2.2.2.2.2.2.2.2.2.1 u.2.2.2.2.2.2.2.2.2.2.2.2.2.1 u.2.2.2.2.2.2.2.2.2.2.2.2.2.2.1 u.2.2.2.2.2.2.2.2.2.2.2.2.2.2.2.1 u.2.2.2.2.2.2.2.2.2.2.2.2.2.2.2.2.1 u.2.2.2.2.2.2.2.2.2.2.2.2.2.2.2.2.2.1 u.2.2.2.2.2.2.2.2.2.2.2.2.2.2.2.2.2.2.1 u.2.2.2.2.2.2.2.2.2.2.2.2.2.2.2.2.2.2.2.1 u.2.2.2.2.2.2.2.2.2.2.2.2.2.2.2.2.2.2.2.2 := by
  refine br_c (fun _ => h _) (fun _ => ⟨pk_in j 96 hj, br_c (fun _ => h _) (fun _ => ⟨pk_in j 96 hj, pk_in j 96 hj, pk_in j 96 hj, rr_sumOf (fun r => h r)⟩)⟩)
theorem rr_leaf {post : Int32 → St2 → Prop} {u : St2} {M m1 m2 k : Nat} {w : Int32} {T : Nat → Int32 × Int32 × Int32} {H : Nat → Nat → Prop} (hS : M ∈ rr_sets) (hm1 : m1 < 6) (hm2 : m2 < 6) (hk : k < 16) (hG : rr_G M w u) (hB : rr_B T H u) (h : ∀ r u, rr_G M w u → rr_B T H u → post r u) : wpX_leaf post u (nI m1) (nI m2) (nI k) := by
  obtain ⟨u_ms, u_ws, u_rs, u_an, u_ns, u_nv, u_nt, u_mg, u_ll, u_a1, u_a2, u_a3, u_a4, u_a5, u_a6, u_a7, u_a8, u_a9, u_a10, u_a11, u_a12⟩ := u
  have hj : m1 * 16 + k < 96 := by omega
  refine nm_r rr_ix (rr_keepsbV hS hm1 hk hG hB (fun y g1 g2 _ => ?_) (fun y g1 g2 _ => ?_))
  · obtain ⟨y_ms, y_ws, y_rs, y_an, y_ns, y_nv, y_nt, y_mg, y_ll, y_a1, y_a2, y_a3, y_a4, y_a5, y_a6, y_a7, y_a8, y_a9, y_a10, y_a11, y_a12⟩ := y
    refine br_f (by decide) (rr_keepsbV hS hm2 hk g1 g2 (fun x g1 g2 _ => ?_) (fun x g1 g2 _ => ?_))
    · obtain ⟨x_ms, x_ws, x_rs, x_an, x_ns, x_nv, x_nt, x_mg, x_ll, x_a1, x_a2, x_a3, x_a4, x_a5, x_a6, x_a7, x_a8, x_a9, x_a10, x_a11, x_a12⟩ := x
      exact br_f (by decide) (rr_leaf31 (u := (x_ms, x_ws, x_rs, x_an, x_ns, x_nv, x_nt, x_mg, x_ll, x_a1, x_a2, x_a3, x_a4, x_a5, x_a6, x_a7, x_a8, x_a9, x_a10, x_a11, x_a12)) hj (fun r => h r (x_ms, x_ws, x_rs, x_an, x_ns, x_nv, x_nt, x_mg, x_ll, x_a1, x_a2, x_a3, x_a4, x_a5, x_a6, x_a7, x_a8, x_a9, x_a10, x_a11, x_a12) g1 g2))
    · obtain ⟨x_ms, x_ws, x_rs, x_an, x_ns, x_nv, x_nt, x_mg, x_ll, x_a1, x_a2, x_a3, x_a4, x_a5, x_a6, x_a7, x_a8, x_a9, x_a10, x_a11, x_a12⟩ := x
      refine br_t rfl ?_
      unfold wX_leaf_30
      exact rr_leaf31 (u := (x_ms, x_ws, x_rs, x_an, x_ns, x_nv, x_nt, x_mg, x_ll, x_a1, x_a2, x_a3, x_a4, x_a5, x_a6, x_a7, x_a8, x_a9, x_a10, x_a11, x_a12)) hj (fun r => h r (x_ms, x_ws, x_rs, x_an, x_ns, x_nv, x_nt, x_mg, x_ll, x_a1, x_a2, x_a3, x_a4, x_a5, x_a6, x_a7, x_a8, x_a9, x_a10, x_a11, x_a12) g1 g2)
  · obtain ⟨y_ms, y_ws, y_rs, y_an, y_ns, y_nv, y_nt, y_mg, y_ll, y_a1, y_a2, y_a3, y_a4, y_a5, y_a6, y_a7, y_a8, y_a9, y_a10, y_a11, y_a12⟩ := y
    refine br_t rfl ?_
    unfold wX_leaf_30
    exact rr_leaf31 (u := (y_ms, y_ws, y_rs, y_an, y_ns, y_nv, y_nt, y_mg, y_ll, y_a1, y_a2, y_a3, y_a4, y_a5, y_a6, y_a7, y_a8, y_a9, y_a10, y_a11, y_a12)) hj (fun r => h r (y_ms, y_ws, y_rs, y_an, y_ns, y_nv, y_nt, y_mg, y_ll, y_a1, y_a2, y_a3, y_a4, y_a5, y_a6, y_a7, y_a8, y_a9, y_a10, y_a11, y_a12) g1 g2)
theorem rr_leafb31 {post : Int32 → St2 → Prop} {u : St2} {j : Nat} {z0 : Int32} (hj : j < 96) (h : ∀ r, post r u) : wX_leaf_2_31 post (nI j) z0 u.1 u.2.1 u.2.2.1 u.2.2.2.1 u.2.2.2.2.1 u.2.2.2.2.2.1 u.2.2.2.2.2.2.1 u.2.2.2.2.2.2.2.1 u.2.2.2.2.2.2.2.2.1 u.2.2.2.2.2.2.2.2.2.1 u.2.2.2.2.2.2.2.2.2.2.1 u.2.2.2.2.2.2.2.2.2.2.2.1 u.2.2.2.2.2.2.2.2.2.2.2.2.1 u.2.2.2.2.2.2.2.2.2.2.2.2.2.1 u.2.2.2.2.2.2.2.2.2.2.2.2.2.2.1 u.2.2.2.2.2.2.2.2.2.2.2.2.2.2.2.1 u.2.2.2.2.2.2.2.2.2.2.2.2.2.2.2.2.1 u.2.2.2.2.2.2.2.2.2.2.2.2.2.2.2.2.2.1 u.2.2.2.2.2.2.2.2.2.2.2.2.2.2.2.2.2.2.1 u.2.2.2.2.2.2.2.2.2.2.2.2.2.2.2.2.2.2.2.1 u.2.2.2.2.2.2.2.2.2.2.2.2.2.2.2.2.2.2.2.2 := by
  refine br_c (fun _ => h _) (fun _ => ⟨pk_in j 96 hj, br_c (fun _ => h _) (fun _ => ⟨pk_in j 96 hj, pk_in j 96 hj, pk_in j 96 hj, rr_sumOf (fun r => h r)⟩)⟩)
theorem rr_leafb {post : Int32 → St2 → Prop} {u : St2} {M m1 m2 k : Nat} {w : Int32} {T : Nat → Int32 × Int32 × Int32} {H : Nat → Nat → Prop} (hS : M ∈ rr_sets) (hm1 : m1 < 6) (hm2 : m2 < 6) (hk : k < 16) (hG : rr_G M w u) (hB : rr_B T H u) (h : ∀ r u, rr_G M w u → rr_B T H u → post r u) : wpX_leaf_2 post u (nI m1) (nI m2) (nI k) := by
  obtain ⟨u_ms, u_ws, u_rs, u_an, u_ns, u_nv, u_nt, u_mg, u_ll, u_a1, u_a2, u_a3, u_a4, u_a5, u_a6, u_a7, u_a8, u_a9, u_a10, u_a11, u_a12⟩ := u
  have hj : m1 * 16 + k < 96 := by omega
  refine nm_r rr_ix (rr_keepscV hS hm1 hk hG hB (fun y g1 g2 _ => ?_) (fun y g1 g2 _ => ?_))
  · obtain ⟨y_ms, y_ws, y_rs, y_an, y_ns, y_nv, y_nt, y_mg, y_ll, y_a1, y_a2, y_a3, y_a4, y_a5, y_a6, y_a7, y_a8, y_a9, y_a10, y_a11, y_a12⟩ := y
    refine br_f (by decide) (rr_keepscV hS hm2 hk g1 g2 (fun x g1 g2 _ => ?_) (fun x g1 g2 _ => ?_))
    · obtain ⟨x_ms, x_ws, x_rs, x_an, x_ns, x_nv, x_nt, x_mg, x_ll, x_a1, x_a2, x_a3, x_a4, x_a5, x_a6, x_a7, x_a8, x_a9, x_a10, x_a11, x_a12⟩ := x
      exact br_f (by decide) (rr_leafb31 (u := (x_ms, x_ws, x_rs, x_an, x_ns, x_nv, x_nt, x_mg, x_ll, x_a1, x_a2, x_a3, x_a4, x_a5, x_a6, x_a7, x_a8, x_a9, x_a10, x_a11, x_a12)) hj (fun r => h r (x_ms, x_ws, x_rs, x_an, x_ns, x_nv, x_nt, x_mg, x_ll, x_a1, x_a2, x_a3, x_a4, x_a5, x_a6, x_a7, x_a8, x_a9, x_a10, x_a11, x_a12) g1 g2))
    · obtain ⟨x_ms, x_ws, x_rs, x_an, x_ns, x_nv, x_nt, x_mg, x_ll, x_a1, x_a2, x_a3, x_a4, x_a5, x_a6, x_a7, x_a8, x_a9, x_a10, x_a11, x_a12⟩ := x
      refine br_t rfl ?_
      unfold wX_leaf_2_30
      exact rr_leafb31 (u := (x_ms, x_ws, x_rs, x_an, x_ns, x_nv, x_nt, x_mg, x_ll, x_a1, x_a2, x_a3, x_a4, x_a5, x_a6, x_a7, x_a8, x_a9, x_a10, x_a11, x_a12)) hj (fun r => h r (x_ms, x_ws, x_rs, x_an, x_ns, x_nv, x_nt, x_mg, x_ll, x_a1, x_a2, x_a3, x_a4, x_a5, x_a6, x_a7, x_a8, x_a9, x_a10, x_a11, x_a12) g1 g2)
  · obtain ⟨y_ms, y_ws, y_rs, y_an, y_ns, y_nv, y_nt, y_mg, y_ll, y_a1, y_a2, y_a3, y_a4, y_a5, y_a6, y_a7, y_a8, y_a9, y_a10, y_a11, y_a12⟩ := y
    refine br_t rfl ?_
    unfold wX_leaf_2_30
    exact rr_leafb31 (u := (y_ms, y_ws, y_rs, y_an, y_ns, y_nv, y_nt, y_mg, y_ll, y_a1, y_a2, y_a3, y_a4, y_a5, y_a6, y_a7, y_a8, y_a9, y_a10, y_a11, y_a12)) hj (fun r => h r (y_ms, y_ws, y_rs, y_an, y_ns, y_nv, y_nt, y_mg, y_ll, y_a1, y_a2, y_a3, y_a4, y_a5, y_a6, y_a7, y_a8, y_a9, y_a10, y_a11, y_a12) g1 g2)
theorem rr_gr49 {post : St2 → Prop} {u : St2} (h : ∀ b10 b11, post (u.1, u.2.1, u.2.2.1, u.2.2.2.1, u.2.2.2.2.1, u.2.2.2.2.2.1, u.2.2.2.2.2.2.1, u.2.2.2.2.2.2.2.1, u.2.2.2.2.2.2.2.2.1, u.2.2.2.2.2.2.2.2.2.1, u.2.2.2.2.2.2.2.2.2.2.1, u.2.2.2.2.2.2.2.2.2.2.2.1, u.2.2.2.2.2.2.2.2.2.2.2.2.1, u.2.2.2.2.2.2.2.2.2.2.2.2.2.1, u.2.2.2.2.2.2.2.2.2.2.2.2.2.2.1, u.2.2.2.2.2.2.2.2.2.2.2.2.2.2.2.1, u.2.2.2.2.2.2.2.2.2.2.2.2.2.2.2.2.1, u.2.2.2.2.2.2.2.2.2.2.2.2.2.2.2.2.2.1, b10, b11, u.2.2.2.2.2.2.2.2.2.2.2.2.2.2.2.2.2.2.2.2)) : ∀ i, i < 15 → ∀ b10 b11, wX_growTrees_49 post u.1 u.2.1 u.2.2.1 u.2.2.2.1 u.2.2.2.2.1 u.2.2.2.2.2.1 u.2.2.2.2.2.2.1 u.2.2.2.2.2.2.2.1 u.2.2.2.2.2.2.2.2.1 (i + 2) (nI i) u.2.2.2.2.2.2.2.2.2.1 u.2.2.2.2.2.2.2.2.2.2.1 u.2.2.2.2.2.2.2.2.2.2.2.1 u.2.2.2.2.2.2.2.2.2.2.2.2.1 u.2.2.2.2.2.2.2.2.2.2.2.2.2.1 u.2.2.2.2.2.2.2.2.2.2.2.2.2.2.1 u.2.2.2.2.2.2.2.2.2.2.2.2.2.2.2.1 u.2.2.2.2.2.2.2.2.2.2.2.2.2.2.2.2.1 u.2.2.2.2.2.2.2.2.2.2.2.2.2.2.2.2.2.1 b10 b11 u.2.2.2.2.2.2.2.2.2.2.2.2.2.2.2.2.2.2.2.2 := by
  have e : ∀ i : Nat, 2 * nI i + 1 = nI (2 * i + 1) := fun i => by rw [show (2 : Int32) = nI 2 from rfl, pk_mul, nI_1]
  have e' : ∀ i : Nat, 2 * nI i + 2 = nI (2 * i + 2) := fun i => by rw [show (2 : Int32) = nI 2 from rfl, pk_mul, nI_add]
  intro i
  induction i with
  | zero =>
    intro hi b10 b11
    refine br_f (nI_pos (by omega)) ?_
    rw [e, e']
    refine ⟨vp_in_nI (N := 31) (by omega) (by omega), vp_in_nI (N := 31) (by omega) (by omega), vp_in_nI (N := 31) (by omega) (by omega), nm_e ⟨vp_in_nI (N := 31) (by omega) (by omega), vp_in_nI (N := 31) (by omega) (by omega), vp_in_nI (N := 31) (by omega) (by omega), nm_e (nm_r (e' := (-1 : Int32)) (by decide) (br_t (by decide) (h _ _)))⟩⟩
  | succ i ih =>
    intro hi b10 b11
    refine br_f (nI_pos (by omega)) ?_
    rw [e, e']
    exact ⟨vp_in_nI (N := 31) (by omega) (by omega), vp_in_nI (N := 31) (by omega) (by omega), vp_in_nI (N := 31) (by omega) (by omega), nm_e ⟨vp_in_nI (N := 31) (by omega) (by omega), vp_in_nI (N := 31) (by omega) (by omega), vp_in_nI (N := 31) (by omega) (by omega), nm_e (nm_r (pk_m1 i) (ih (by omega) _ _))⟩⟩
theorem rr_G10 {M : Nat} {w : Int32} {u : St2} {b : Nat → Int32} (h : rr_G M w u) : rr_G M w (u.1, u.2.1, u.2.2.1, u.2.2.2.1, u.2.2.2.2.1, u.2.2.2.2.2.1, u.2.2.2.2.2.2.1, u.2.2.2.2.2.2.2.1, u.2.2.2.2.2.2.2.2.1, u.2.2.2.2.2.2.2.2.2.1, u.2.2.2.2.2.2.2.2.2.2.1, u.2.2.2.2.2.2.2.2.2.2.2.1, u.2.2.2.2.2.2.2.2.2.2.2.2.1, u.2.2.2.2.2.2.2.2.2.2.2.2.2.1, u.2.2.2.2.2.2.2.2.2.2.2.2.2.2.1, u.2.2.2.2.2.2.2.2.2.2.2.2.2.2.2.1, u.2.2.2.2.2.2.2.2.2.2.2.2.2.2.2.2.1, u.2.2.2.2.2.2.2.2.2.2.2.2.2.2.2.2.2.1, b, u.2.2.2.2.2.2.2.2.2.2.2.2.2.2.2.2.2.2.2.1, u.2.2.2.2.2.2.2.2.2.2.2.2.2.2.2.2.2.2.2.2) := h
theorem rr_G11 {M : Nat} {w : Int32} {u : St2} {b : Nat → Int32} (h : rr_G M w u) : rr_G M w (u.1, u.2.1, u.2.2.1, u.2.2.2.1, u.2.2.2.2.1, u.2.2.2.2.2.1, u.2.2.2.2.2.2.1, u.2.2.2.2.2.2.2.1, u.2.2.2.2.2.2.2.2.1, u.2.2.2.2.2.2.2.2.2.1, u.2.2.2.2.2.2.2.2.2.2.1, u.2.2.2.2.2.2.2.2.2.2.2.1, u.2.2.2.2.2.2.2.2.2.2.2.2.1, u.2.2.2.2.2.2.2.2.2.2.2.2.2.1, u.2.2.2.2.2.2.2.2.2.2.2.2.2.2.1, u.2.2.2.2.2.2.2.2.2.2.2.2.2.2.2.1, u.2.2.2.2.2.2.2.2.2.2.2.2.2.2.2.2.1, u.2.2.2.2.2.2.2.2.2.2.2.2.2.2.2.2.2.1, u.2.2.2.2.2.2.2.2.2.2.2.2.2.2.2.2.2.2.1, b, u.2.2.2.2.2.2.2.2.2.2.2.2.2.2.2.2.2.2.2.2) := h
theorem rr_B10 {T : Nat → Int32 × Int32 × Int32} {H : Nat → Nat → Prop} {u : St2} {b : Nat → Int32} (h : rr_B T H u) : rr_B T H (u.1, u.2.1, u.2.2.1, u.2.2.2.1, u.2.2.2.2.1, u.2.2.2.2.2.1, u.2.2.2.2.2.2.1, u.2.2.2.2.2.2.2.1, u.2.2.2.2.2.2.2.2.1, u.2.2.2.2.2.2.2.2.2.1, u.2.2.2.2.2.2.2.2.2.2.1, u.2.2.2.2.2.2.2.2.2.2.2.1, u.2.2.2.2.2.2.2.2.2.2.2.2.1, u.2.2.2.2.2.2.2.2.2.2.2.2.2.1, u.2.2.2.2.2.2.2.2.2.2.2.2.2.2.1, u.2.2.2.2.2.2.2.2.2.2.2.2.2.2.2.1, u.2.2.2.2.2.2.2.2.2.2.2.2.2.2.2.2.1, u.2.2.2.2.2.2.2.2.2.2.2.2.2.2.2.2.2.1, b, u.2.2.2.2.2.2.2.2.2.2.2.2.2.2.2.2.2.2.2.1, u.2.2.2.2.2.2.2.2.2.2.2.2.2.2.2.2.2.2.2.2) := h
theorem rr_B11 {T : Nat → Int32 × Int32 × Int32} {H : Nat → Nat → Prop} {u : St2} {b : Nat → Int32} (h : rr_B T H u) : rr_B T H (u.1, u.2.1, u.2.2.1, u.2.2.2.1, u.2.2.2.2.1, u.2.2.2.2.2.1, u.2.2.2.2.2.2.1, u.2.2.2.2.2.2.2.1, u.2.2.2.2.2.2.2.2.1, u.2.2.2.2.2.2.2.2.2.1, u.2.2.2.2.2.2.2.2.2.2.1, u.2.2.2.2.2.2.2.2.2.2.2.1, u.2.2.2.2.2.2.2.2.2.2.2.2.1, u.2.2.2.2.2.2.2.2.2.2.2.2.2.1, u.2.2.2.2.2.2.2.2.2.2.2.2.2.2.1, u.2.2.2.2.2.2.2.2.2.2.2.2.2.2.2.1, u.2.2.2.2.2.2.2.2.2.2.2.2.2.2.2.2.1, u.2.2.2.2.2.2.2.2.2.2.2.2.2.2.2.2.2.1, u.2.2.2.2.2.2.2.2.2.2.2.2.2.2.2.2.2.2.1, b, u.2.2.2.2.2.2.2.2.2.2.2.2.2.2.2.2.2.2.2.2) := h
theorem rr_growTrees {post : St2 → Prop} {u : St2} {M m1 m2 : Nat} {w : Int32} {T : Nat → Int32 × Int32 × Int32} {H : Nat → Nat → Prop} (hS : M ∈ rr_sets) (hm1 : m1 < 6) (hm2 : m2 < 6) (hG : rr_G M w u) (hB : rr_B T H u) (h : ∀ u, rr_G M w u → rr_B T H u → post u) : wpX_growTrees post u (nI m1) (nI m2) := by
  obtain ⟨u_ms, u_ws, u_rs, u_an, u_ns, u_nv, u_nt, u_mg, u_ll, u_a1, u_a2, u_a3, u_a4, u_a5, u_a6, u_a7, u_a8, u_a9, u_a10, u_a11, u_a12⟩ := u
  refine pk_loop (fun n i (u : St2) => wX_growTrees_2 post (nI m1) (nI m2) n (nI i) u.1 u.2.1 u.2.2.1 u.2.2.2.1 u.2.2.2.2.1 u.2.2.2.2.2.1 u.2.2.2.2.2.2.1 u.2.2.2.2.2.2.2.1 u.2.2.2.2.2.2.2.2.1 u.2.2.2.2.2.2.2.2.2.1 u.2.2.2.2.2.2.2.2.2.2.1 u.2.2.2.2.2.2.2.2.2.2.2.1 u.2.2.2.2.2.2.2.2.2.2.2.2.1 u.2.2.2.2.2.2.2.2.2.2.2.2.2.1 u.2.2.2.2.2.2.2.2.2.2.2.2.2.2.1 u.2.2.2.2.2.2.2.2.2.2.2.2.2.2.2.1 u.2.2.2.2.2.2.2.2.2.2.2.2.2.2.2.2.1 u.2.2.2.2.2.2.2.2.2.2.2.2.2.2.2.2.2.1 u.2.2.2.2.2.2.2.2.2.2.2.2.2.2.2.2.2.2.1 u.2.2.2.2.2.2.2.2.2.2.2.2.2.2.2.2.2.2.2.1 u.2.2.2.2.2.2.2.2.2.2.2.2.2.2.2.2.2.2.2.2) (fun _ u => rr_G M w u ∧ rr_B T H u) 16 0 (u_ms, u_ws, u_rs, u_an, u_ns, u_nv, u_nt, u_mg, u_ll, u_a1, u_a2, u_a3, u_a4, u_a5, u_a6, u_a7, u_a8, u_a9, u_a10, u_a11, u_a12) (by omega) ⟨hG, hB⟩ ?_ ?_
  · intro n u ⟨hG, hB⟩
    exact br_t (Int32.le_refl _) ⟨14 + 2, rr_gr49 (u := u) (fun b10 b11 => h (u.1, u.2.1, u.2.2.1, u.2.2.2.1, u.2.2.2.2.1, u.2.2.2.2.2.1, u.2.2.2.2.2.2.1, u.2.2.2.2.2.2.2.1, u.2.2.2.2.2.2.2.2.1, u.2.2.2.2.2.2.2.2.2.1, u.2.2.2.2.2.2.2.2.2.2.1, u.2.2.2.2.2.2.2.2.2.2.2.1, u.2.2.2.2.2.2.2.2.2.2.2.2.1, u.2.2.2.2.2.2.2.2.2.2.2.2.2.1, u.2.2.2.2.2.2.2.2.2.2.2.2.2.2.1, u.2.2.2.2.2.2.2.2.2.2.2.2.2.2.2.1, u.2.2.2.2.2.2.2.2.2.2.2.2.2.2.2.2.1, u.2.2.2.2.2.2.2.2.2.2.2.2.2.2.2.2.2.1, b10, b11, u.2.2.2.2.2.2.2.2.2.2.2.2.2.2.2.2.2.2.2.2) hG hB) 14 (by omega) u.2.2.2.2.2.2.2.2.2.2.2.2.2.2.2.2.2.2.1 u.2.2.2.2.2.2.2.2.2.2.2.2.2.2.2.2.2.2.2.1⟩
  · intro n i u hi ⟨hG, hB⟩ hw
    have e : (15 : Int32) + nI i = nI (15 + i) := by rw [show (15 : Int32) = nI 15 from rfl, nI_add]
    refine br_f (nI_ge (b := 16) hi (by decide)) (rr_leaf (u := (u.1, u.2.1, u.2.2.1, u.2.2.2.1, u.2.2.2.2.1, u.2.2.2.2.2.1, u.2.2.2.2.2.2.1, u.2.2.2.2.2.2.2.1, u.2.2.2.2.2.2.2.2.1, u.2.2.2.2.2.2.2.2.2.1, u.2.2.2.2.2.2.2.2.2.2.1, u.2.2.2.2.2.2.2.2.2.2.2.1, u.2.2.2.2.2.2.2.2.2.2.2.2.1, u.2.2.2.2.2.2.2.2.2.2.2.2.2.1, u.2.2.2.2.2.2.2.2.2.2.2.2.2.2.1, u.2.2.2.2.2.2.2.2.2.2.2.2.2.2.2.1, u.2.2.2.2.2.2.2.2.2.2.2.2.2.2.2.2.1, u.2.2.2.2.2.2.2.2.2.2.2.2.2.2.2.2.2.1, u.2.2.2.2.2.2.2.2.2.2.2.2.2.2.2.2.2.2.1, u.2.2.2.2.2.2.2.2.2.2.2.2.2.2.2.2.2.2.2.1, u.2.2.2.2.2.2.2.2.2.2.2.2.2.2.2.2.2.2.2.2)) hS hm1 hm2 hi hG hB (fun r y g1 g2 => ?_))
    obtain ⟨y_ms, y_ws, y_rs, y_an, y_ns, y_nv, y_nt, y_mg, y_ll, y_a1, y_a2, y_a3, y_a4, y_a5, y_a6, y_a7, y_a8, y_a9, y_a10, y_a11, y_a12⟩ := y
    refine ⟨by rw [e]; exact vp_in_nI (by omega) (by omega), nm_e (rr_leafb (u := (y_ms, y_ws, y_rs, y_an, y_ns, y_nv, y_nt, y_mg, y_ll, y_a1, y_a2, y_a3, y_a4, y_a5, y_a6, y_a7, y_a8, y_a9, upd y_a10 ((15 : Int32) + nI i).toNatClampNeg r, y_a11, y_a12)) hS hm2 hm1 hi (rr_G10 g1) (rr_B10 g2) (fun r' x g1 g2 => ?_))⟩
    obtain ⟨x_ms, x_ws, x_rs, x_an, x_ns, x_nv, x_nt, x_mg, x_ll, x_a1, x_a2, x_a3, x_a4, x_a5, x_a6, x_a7, x_a8, x_a9, x_a10, x_a11, x_a12⟩ := x
    exact ⟨by rw [e]; exact vp_in_nI (by omega) (by omega), nm_e (nm_r (nI_1 i) (hw (x_ms, x_ws, x_rs, x_an, x_ns, x_nv, x_nt, x_mg, x_ll, x_a1, x_a2, x_a3, x_a4, x_a5, x_a6, x_a7, x_a8, x_a9, x_a10, upd x_a11 ((15 : Int32) + nI i).toNatClampNeg r', x_a12) ⟨rr_G11 g1, rr_B11 g2⟩))⟩
theorem rr_cp131 {post : St2 → Prop} {J : Int32 → Int32 → Int32 → Int32 → Int32 → Int32 → Int32 → Int32 → Int32 → Int32 → (Nat → Int32) → (Nat → Int32) → (Nat → Int32) → (Nat → Int32) → (Nat → Int32) → (Nat → Int32) → (Nat → Int32) → (Nat → Int32) → (Nat → Int32) → (Nat → Int32) → (Nat → Int32) → (Nat → Int32) → Prop}
    {u : St2} {M m1 m2 k : Nat} {w z0 : Int32} {T : Nat → Int32 × Int32 × Int32} {H : Nat → Nat → Prop} (h12 : m1 ≠ m2) (hm1 : m1 < 6) (hm2 : m2 < 6) (hk : k < 16)
    (h : ∀ (u : St2), rr_G M w u → rr_B T H u → (¬ z0 = 0 → u.2.2.2.2.2.2.2.2.2.2.2.1 (m1 * 16 + k) = u.2.2.2.2.2.2.2.2.2.2.2.1 (m2 * 16 + k)) → J (nI (k + 1)) u.1 u.2.1 u.2.2.1 u.2.2.2.1 u.2.2.2.2.1 u.2.2.2.2.2.1 u.2.2.2.2.2.2.1 u.2.2.2.2.2.2.2.1 u.2.2.2.2.2.2.2.2.1 u.2.2.2.2.2.2.2.2.2.1 u.2.2.2.2.2.2.2.2.2.2.1 u.2.2.2.2.2.2.2.2.2.2.2.1 u.2.2.2.2.2.2.2.2.2.2.2.2.1 u.2.2.2.2.2.2.2.2.2.2.2.2.2.1 u.2.2.2.2.2.2.2.2.2.2.2.2.2.2.1 u.2.2.2.2.2.2.2.2.2.2.2.2.2.2.2.1 u.2.2.2.2.2.2.2.2.2.2.2.2.2.2.2.2.1 u.2.2.2.2.2.2.2.2.2.2.2.2.2.2.2.2.2.1 u.2.2.2.2.2.2.2.2.2.2.2.2.2.2.2.2.2.2.1 u.2.2.2.2.2.2.2.2.2.2.2.2.2.2.2.2.2.2.2.1 u.2.2.2.2.2.2.2.2.2.2.2.2.2.2.2.2.2.2.2.2)
    (hG : rr_G M w u) (hB : rr_B T H u) : wX_compare_131 post J (nI m1) (nI m2) (nI k) z0 u.1 u.2.1 u.2.2.1 u.2.2.2.1 u.2.2.2.2.1 u.2.2.2.2.2.1 u.2.2.2.2.2.2.1 u.2.2.2.2.2.2.2.1 u.2.2.2.2.2.2.2.2.1 u.2.2.2.2.2.2.2.2.2.1 u.2.2.2.2.2.2.2.2.2.2.1 u.2.2.2.2.2.2.2.2.2.2.2.1 u.2.2.2.2.2.2.2.2.2.2.2.2.1 u.2.2.2.2.2.2.2.2.2.2.2.2.2.1 u.2.2.2.2.2.2.2.2.2.2.2.2.2.2.1 u.2.2.2.2.2.2.2.2.2.2.2.2.2.2.2.1 u.2.2.2.2.2.2.2.2.2.2.2.2.2.2.2.2.1 u.2.2.2.2.2.2.2.2.2.2.2.2.2.2.2.2.2.1 u.2.2.2.2.2.2.2.2.2.2.2.2.2.2.2.2.2.2.1 u.2.2.2.2.2.2.2.2.2.2.2.2.2.2.2.2.2.2.2.1 u.2.2.2.2.2.2.2.2.2.2.2.2.2.2.2.2.2.2.2.2 := by
  refine br_c (fun z => nm_r (nI_1 k) (h u hG hB (fun y => absurd z y))) (fun z => ?_)
  rw [rr_ix, rr_ix, nI_clamp (show m1 * 16 + k < 2 ^ 31 by omega), nI_clamp (show m2 * 16 + k < 2 ^ 31 by omega)]
  refine ⟨vp_in_nI (N := 96) (by omega) (by omega), vp_in_nI (N := 96) (by omega) (by omega), br_c (fun y => nm_r (nI_1 k) (h u hG hB (fun _ => y))) (fun y => ?_)⟩
  exact rr_exchange (u := (u.1, u.2.1, u.2.2.1, u.2.2.2.1, u.2.2.2.2.1, u.2.2.2.2.2.1, u.2.2.2.2.2.2.1, u.2.2.2.2.2.2.2.1, u.2.2.2.2.2.2.2.2.1, u.2.2.2.2.2.2.2.2.2.1, u.2.2.2.2.2.2.2.2.2.2.1, u.2.2.2.2.2.2.2.2.2.2.2.1, u.2.2.2.2.2.2.2.2.2.2.2.2.1, u.2.2.2.2.2.2.2.2.2.2.2.2.2.1, u.2.2.2.2.2.2.2.2.2.2.2.2.2.2.1, u.2.2.2.2.2.2.2.2.2.2.2.2.2.2.2.1, u.2.2.2.2.2.2.2.2.2.2.2.2.2.2.2.2.1, u.2.2.2.2.2.2.2.2.2.2.2.2.2.2.2.2.2.1, u.2.2.2.2.2.2.2.2.2.2.2.2.2.2.2.2.2.2.1, u.2.2.2.2.2.2.2.2.2.2.2.2.2.2.2.2.2.2.2.1, u.2.2.2.2.2.2.2.2.2.2.2.2.2.2.2.2.2.2.2.2)) h12 hm1 hm2 hk hG hB (fun u' g1 g2 g3 => nm_r (nI_1 k) (h u' g1 g2 (fun _ => g3)))
theorem rr_cp102 {post : St2 → Prop} {u : St2} {M m1 m2 : Nat} {w : Int32} {T : Nat → Int32 × Int32 × Int32} {H : Nat → Nat → Prop} (hS : M ∈ rr_sets) (h12 : m1 ≠ m2) (hm1 : m1 < 6) (hm2 : m2 < 6)
    (h : ∀ u, rr_G M w u → rr_B T (fun a k => H a k ∨ (a = m1 ∧ rr_kp M m1 k ∧ rr_kp M m2 k ∧ H m2 k)) u → post u) (hG : rr_G M w u) (hB : rr_B T H u) : ∃ n, wX_compare_102 post (nI m1) (nI m2) n 0 u.1 u.2.1 u.2.2.1 u.2.2.2.1 u.2.2.2.2.1 u.2.2.2.2.2.1 u.2.2.2.2.2.2.1 u.2.2.2.2.2.2.2.1 u.2.2.2.2.2.2.2.2.1 u.2.2.2.2.2.2.2.2.2.1 u.2.2.2.2.2.2.2.2.2.2.1 u.2.2.2.2.2.2.2.2.2.2.2.1 u.2.2.2.2.2.2.2.2.2.2.2.2.1 u.2.2.2.2.2.2.2.2.2.2.2.2.2.1 u.2.2.2.2.2.2.2.2.2.2.2.2.2.2.1 u.2.2.2.2.2.2.2.2.2.2.2.2.2.2.2.1 u.2.2.2.2.2.2.2.2.2.2.2.2.2.2.2.2.1 u.2.2.2.2.2.2.2.2.2.2.2.2.2.2.2.2.2.1 u.2.2.2.2.2.2.2.2.2.2.2.2.2.2.2.2.2.2.1 u.2.2.2.2.2.2.2.2.2.2.2.2.2.2.2.2.2.2.2.1 u.2.2.2.2.2.2.2.2.2.2.2.2.2.2.2.2.2.2.2.2 := by
  refine pk_loop (fun n k (u : St2) => wX_compare_102 post (nI m1) (nI m2) n (nI k) u.1 u.2.1 u.2.2.1 u.2.2.2.1 u.2.2.2.2.1 u.2.2.2.2.2.1 u.2.2.2.2.2.2.1 u.2.2.2.2.2.2.2.1 u.2.2.2.2.2.2.2.2.1 u.2.2.2.2.2.2.2.2.2.1 u.2.2.2.2.2.2.2.2.2.2.1 u.2.2.2.2.2.2.2.2.2.2.2.1 u.2.2.2.2.2.2.2.2.2.2.2.2.1 u.2.2.2.2.2.2.2.2.2.2.2.2.2.1 u.2.2.2.2.2.2.2.2.2.2.2.2.2.2.1 u.2.2.2.2.2.2.2.2.2.2.2.2.2.2.2.1 u.2.2.2.2.2.2.2.2.2.2.2.2.2.2.2.2.1 u.2.2.2.2.2.2.2.2.2.2.2.2.2.2.2.2.2.1 u.2.2.2.2.2.2.2.2.2.2.2.2.2.2.2.2.2.2.1 u.2.2.2.2.2.2.2.2.2.2.2.2.2.2.2.2.2.2.2.1 u.2.2.2.2.2.2.2.2.2.2.2.2.2.2.2.2.2.2.2.2) (fun k u => rr_G M w u ∧ rr_B T (fun a j => H a j ∨ (j < k ∧ a = m1 ∧ rr_kp M m1 j ∧ rr_kp M m2 j ∧ H m2 j)) u) 16 0 u (by omega)
    ⟨hG, hB.1, rr_C_sub hB.2 (fun m _ j _ z => Or.inl (z.elim (fun y => y) (fun y => absurd y.1 (by omega))))⟩ ?_ ?_
  · intro n u ⟨hG, hB⟩
    refine br_t (Int32.le_refl _) (h u hG ⟨hB.1, rr_C_sub hB.2 (fun m _ j hj z => Or.inl ?_)⟩)
    rcases z with z | z
    · exact Or.inl z
    · exact Or.inr ⟨hj, z⟩
  · intro n k u hk ⟨hG, hB⟩ hw
    have fin0 : ∀ u', rr_G M w u' → rr_B T (fun a j => H a j ∨ (j < k ∧ a = m1 ∧ rr_kp M m1 j ∧ rr_kp M m2 j ∧ H m2 j)) u' → ((rr_kp M m1 k ∧ rr_kp M m2 k) → u'.2.2.2.2.2.2.2.2.2.2.2.1 (m1 * 16 + k) = u'.2.2.2.2.2.2.2.2.2.2.2.1 (m2 * 16 + k)) →
        wX_compare_102 post (nI m1) (nI m2) n (nI (k + 1)) u'.1 u'.2.1 u'.2.2.1 u'.2.2.2.1 u'.2.2.2.2.1 u'.2.2.2.2.2.1 u'.2.2.2.2.2.2.1 u'.2.2.2.2.2.2.2.1 u'.2.2.2.2.2.2.2.2.1 u'.2.2.2.2.2.2.2.2.2.1 u'.2.2.2.2.2.2.2.2.2.2.1 u'.2.2.2.2.2.2.2.2.2.2.2.1 u'.2.2.2.2.2.2.2.2.2.2.2.2.1 u'.2.2.2.2.2.2.2.2.2.2.2.2.2.1 u'.2.2.2.2.2.2.2.2.2.2.2.2.2.2.1 u'.2.2.2.2.2.2.2.2.2.2.2.2.2.2.2.1 u'.2.2.2.2.2.2.2.2.2.2.2.2.2.2.2.2.1 u'.2.2.2.2.2.2.2.2.2.2.2.2.2.2.2.2.2.1 u'.2.2.2.2.2.2.2.2.2.2.2.2.2.2.2.2.2.2.1 u'.2.2.2.2.2.2.2.2.2.2.2.2.2.2.2.2.2.2.2.1 u'.2.2.2.2.2.2.2.2.2.2.2.2.2.2.2.2.2.2.2.2 := by
      intro u' g1 g2 g3
      refine hw u' ⟨g1, g2.1, rr_C_sub g2.2 (fun m hm j hj z => ?_)⟩
      rcases z with z | ⟨z1, z2, z3, z4, z5⟩
      · exact Or.inl (Or.inl z)
      · by_cases e : j = k
        · right
          rw [e] at z3 z4 z5
          rw [z2, e]
          exact (g3 ⟨z3, z4⟩).trans (g2.2.2.2 m2 hm2 k hk (Or.inl z5))
        · exact Or.inl (Or.inr ⟨by omega, z2, z3, z4, z5⟩)
    refine br_f (nI_ge (b := 16) hk (by decide)) (rr_keepsV (u := (u.1, u.2.1, u.2.2.1, u.2.2.2.1, u.2.2.2.2.1, u.2.2.2.2.2.1, u.2.2.2.2.2.2.1, u.2.2.2.2.2.2.2.1, u.2.2.2.2.2.2.2.2.1, u.2.2.2.2.2.2.2.2.2.1, u.2.2.2.2.2.2.2.2.2.2.1, u.2.2.2.2.2.2.2.2.2.2.2.1, u.2.2.2.2.2.2.2.2.2.2.2.2.1, u.2.2.2.2.2.2.2.2.2.2.2.2.2.1, u.2.2.2.2.2.2.2.2.2.2.2.2.2.2.1, u.2.2.2.2.2.2.2.2.2.2.2.2.2.2.2.1, u.2.2.2.2.2.2.2.2.2.2.2.2.2.2.2.2.1, u.2.2.2.2.2.2.2.2.2.2.2.2.2.2.2.2.2.1, u.2.2.2.2.2.2.2.2.2.2.2.2.2.2.2.2.2.2.1, u.2.2.2.2.2.2.2.2.2.2.2.2.2.2.2.2.2.2.2.1, u.2.2.2.2.2.2.2.2.2.2.2.2.2.2.2.2.2.2.2.2)) hS hm1 hk hG hB (fun y g1 g2 k1 => ?_) (fun y g1 g2 k1 => ?_))
    · obtain ⟨y_ms, y_ws, y_rs, y_an, y_ns, y_nv, y_nt, y_mg, y_ll, y_a1, y_a2, y_a3, y_a4, y_a5, y_a6, y_a7, y_a8, y_a9, y_a10, y_a11, y_a12⟩ := y
      refine br_f (by decide) (rr_keepsV hS hm2 hk g1 g2 (fun x g1 g2 k2 => ?_) (fun x g1 g2 k2 => ?_))
      · obtain ⟨x_ms, x_ws, x_rs, x_an, x_ns, x_nv, x_nt, x_mg, x_ll, x_a1, x_a2, x_a3, x_a4, x_a5, x_a6, x_a7, x_a8, x_a9, x_a10, x_a11, x_a12⟩ := x
        exact br_f (by decide) (rr_cp131 (u := (x_ms, x_ws, x_rs, x_an, x_ns, x_nv, x_nt, x_mg, x_ll, x_a1, x_a2, x_a3, x_a4, x_a5, x_a6, x_a7, x_a8, x_a9, x_a10, x_a11, x_a12)) h12 hm1 hm2 hk (fun u' g1 g2 g3 => fin0 u' g1 g2 (fun _ => g3 (by decide))) g1 g2)
      · obtain ⟨x_ms, x_ws, x_rs, x_an, x_ns, x_nv, x_nt, x_mg, x_ll, x_a1, x_a2, x_a3, x_a4, x_a5, x_a6, x_a7, x_a8, x_a9, x_a10, x_a11, x_a12⟩ := x
        refine br_t rfl ?_
        unfold wX_compare_130
        exact rr_cp131 (u := (x_ms, x_ws, x_rs, x_an, x_ns, x_nv, x_nt, x_mg, x_ll, x_a1, x_a2, x_a3, x_a4, x_a5, x_a6, x_a7, x_a8, x_a9, x_a10, x_a11, x_a12)) h12 hm1 hm2 hk (fun u' g1 g2 g3 => fin0 u' g1 g2 (fun y => absurd y.2 k2)) g1 g2
    · obtain ⟨y_ms, y_ws, y_rs, y_an, y_ns, y_nv, y_nt, y_mg, y_ll, y_a1, y_a2, y_a3, y_a4, y_a5, y_a6, y_a7, y_a8, y_a9, y_a10, y_a11, y_a12⟩ := y
      refine br_t rfl ?_
      unfold wX_compare_130
      exact rr_cp131 (u := (y_ms, y_ws, y_rs, y_an, y_ns, y_nv, y_nt, y_mg, y_ll, y_a1, y_a2, y_a3, y_a4, y_a5, y_a6, y_a7, y_a8, y_a9, y_a10, y_a11, y_a12)) h12 hm1 hm2 hk (fun u' g1 g2 g3 => fin0 u' g1 g2 (fun y => absurd y.1 k1)) g1 g2
theorem rr_cp68 {post : St2 → Prop} {J : Int32 → Int32 → Int32 → Int32 → Int32 → Int32 → Int32 → Int32 → Int32 → Int32 → (Nat → Int32) → (Nat → Int32) → (Nat → Int32) → (Nat → Int32) → (Nat → Int32) → (Nat → Int32) → (Nat → Int32) → (Nat → Int32) → (Nat → Int32) → (Nat → Int32) → (Nat → Int32) → (Nat → Int32) → Prop}
    {u : St2} {M m1 m2 x : Nat} {w z0 : Int32} {T : Nat → Int32 × Int32 × Int32} {H : Nat → Nat → Prop} (h12 : m1 ≠ m2) (hm1 : m1 < 6) (hm2 : m2 < 6) (hx : x < 31)
    (h : ∀ (u : St2), rr_G M w u → rr_B T H u → J (nI (x + 1)) u.1 u.2.1 u.2.2.1 u.2.2.2.1 u.2.2.2.2.1 u.2.2.2.2.2.1 u.2.2.2.2.2.2.1 u.2.2.2.2.2.2.2.1 u.2.2.2.2.2.2.2.2.1 u.2.2.2.2.2.2.2.2.2.1 u.2.2.2.2.2.2.2.2.2.2.1 u.2.2.2.2.2.2.2.2.2.2.2.1 u.2.2.2.2.2.2.2.2.2.2.2.2.1 u.2.2.2.2.2.2.2.2.2.2.2.2.2.1 u.2.2.2.2.2.2.2.2.2.2.2.2.2.2.1 u.2.2.2.2.2.2.2.2.2.2.2.2.2.2.2.1 u.2.2.2.2.2.2.2.2.2.2.2.2.2.2.2.2.1 u.2.2.2.2.2.2.2.2.2.2.2.2.2.2.2.2.2.1 u.2.2.2.2.2.2.2.2.2.2.2.2.2.2.2.2.2.2.1 u.2.2.2.2.2.2.2.2.2.2.2.2.2.2.2.2.2.2.2.1 u.2.2.2.2.2.2.2.2.2.2.2.2.2.2.2.2.2.2.2.2)
    (hG : rr_G M w u) (hB : rr_B T H u) : wX_compare_68 post J (nI m1) (nI m2) (nI x) z0 (nI x) u.1 u.2.1 u.2.2.1 u.2.2.2.1 u.2.2.2.2.1 u.2.2.2.2.2.1 u.2.2.2.2.2.2.1 u.2.2.2.2.2.2.2.1 u.2.2.2.2.2.2.2.2.1 u.2.2.2.2.2.2.2.2.2.1 u.2.2.2.2.2.2.2.2.2.2.1 u.2.2.2.2.2.2.2.2.2.2.2.1 u.2.2.2.2.2.2.2.2.2.2.2.2.1 u.2.2.2.2.2.2.2.2.2.2.2.2.2.1 u.2.2.2.2.2.2.2.2.2.2.2.2.2.2.1 u.2.2.2.2.2.2.2.2.2.2.2.2.2.2.2.1 u.2.2.2.2.2.2.2.2.2.2.2.2.2.2.2.2.1 u.2.2.2.2.2.2.2.2.2.2.2.2.2.2.2.2.2.1 u.2.2.2.2.2.2.2.2.2.2.2.2.2.2.2.2.2.2.1 u.2.2.2.2.2.2.2.2.2.2.2.2.2.2.2.2.2.2.2.1 u.2.2.2.2.2.2.2.2.2.2.2.2.2.2.2.2.2.2.2.2 := by
  refine ⟨pk_in x 31 hx, nm_e ⟨pk_in x 31 hx, br_c (fun _ => nm_r (nI_1 x) (h (u.1, u.2.1, u.2.2.1, u.2.2.2.1, u.2.2.2.2.1, u.2.2.2.2.2.1, u.2.2.2.2.2.2.1, u.2.2.2.2.2.2.2.1, u.2.2.2.2.2.2.2.2.1, u.2.2.2.2.2.2.2.2.2.1, u.2.2.2.2.2.2.2.2.2.2.1, u.2.2.2.2.2.2.2.2.2.2.2.1, u.2.2.2.2.2.2.2.2.2.2.2.2.1, u.2.2.2.2.2.2.2.2.2.2.2.2.2.1, u.2.2.2.2.2.2.2.2.2.2.2.2.2.2.1, u.2.2.2.2.2.2.2.2.2.2.2.2.2.2.2.1, u.2.2.2.2.2.2.2.2.2.2.2.2.2.2.2.2.1, u.2.2.2.2.2.2.2.2.2.2.2.2.2.2.2.2.2.1, u.2.2.2.2.2.2.2.2.2.2.2.2.2.2.2.2.2.2.1, u.2.2.2.2.2.2.2.2.2.2.2.2.2.2.2.2.2.2.2.1, upd u.2.2.2.2.2.2.2.2.2.2.2.2.2.2.2.2.2.2.2.2 (nI x).toNatClampNeg (vp_nar .boolean z0)) hG hB)) (fun _ => pk_lt x 15 (fun _ => nm_r (nI_1 x) (h (u.1, u.2.1, u.2.2.1, u.2.2.2.1, u.2.2.2.2.1, u.2.2.2.2.2.1, u.2.2.2.2.2.2.1, u.2.2.2.2.2.2.2.1, u.2.2.2.2.2.2.2.2.1, u.2.2.2.2.2.2.2.2.2.1, u.2.2.2.2.2.2.2.2.2.2.1, u.2.2.2.2.2.2.2.2.2.2.2.1, u.2.2.2.2.2.2.2.2.2.2.2.2.1, u.2.2.2.2.2.2.2.2.2.2.2.2.2.1, u.2.2.2.2.2.2.2.2.2.2.2.2.2.2.1, u.2.2.2.2.2.2.2.2.2.2.2.2.2.2.2.1, u.2.2.2.2.2.2.2.2.2.2.2.2.2.2.2.2.1, u.2.2.2.2.2.2.2.2.2.2.2.2.2.2.2.2.2.1, u.2.2.2.2.2.2.2.2.2.2.2.2.2.2.2.2.2.2.1, u.2.2.2.2.2.2.2.2.2.2.2.2.2.2.2.2.2.2.2.1, upd u.2.2.2.2.2.2.2.2.2.2.2.2.2.2.2.2.2.2.2.2 (nI x).toNatClampNeg (vp_nar .boolean z0)) hG hB)) (fun z => ?_))⟩⟩
  rw [show nI x - 15 = nI (x - 15) from pk_sub (b := 15) z]
  exact rr_exchange (u := (u.1, u.2.1, u.2.2.1, u.2.2.2.1, u.2.2.2.2.1, u.2.2.2.2.2.1, u.2.2.2.2.2.2.1, u.2.2.2.2.2.2.2.1, u.2.2.2.2.2.2.2.2.1, u.2.2.2.2.2.2.2.2.2.1, u.2.2.2.2.2.2.2.2.2.2.1, u.2.2.2.2.2.2.2.2.2.2.2.1, u.2.2.2.2.2.2.2.2.2.2.2.2.1, u.2.2.2.2.2.2.2.2.2.2.2.2.2.1, u.2.2.2.2.2.2.2.2.2.2.2.2.2.2.1, u.2.2.2.2.2.2.2.2.2.2.2.2.2.2.2.1, u.2.2.2.2.2.2.2.2.2.2.2.2.2.2.2.2.1, u.2.2.2.2.2.2.2.2.2.2.2.2.2.2.2.2.2.1, u.2.2.2.2.2.2.2.2.2.2.2.2.2.2.2.2.2.2.1, u.2.2.2.2.2.2.2.2.2.2.2.2.2.2.2.2.2.2.2.1, upd u.2.2.2.2.2.2.2.2.2.2.2.2.2.2.2.2.2.2.2.2 (nI x).toNatClampNeg (vp_nar .boolean z0))) h12 hm1 hm2 (by omega) hG hB (fun u' g1 g2 _ => nm_r (nI_1 x) (h u' g1 g2))
theorem rr_cp36 {post : St2 → Prop} {J : Int32 → Int32 → Int32 → Int32 → Int32 → Int32 → Int32 → Int32 → Int32 → Int32 → (Nat → Int32) → (Nat → Int32) → (Nat → Int32) → (Nat → Int32) → (Nat → Int32) → (Nat → Int32) → (Nat → Int32) → (Nat → Int32) → (Nat → Int32) → (Nat → Int32) → (Nat → Int32) → (Nat → Int32) → Prop}
    {u : St2} {M m1 m2 x : Nat} {w z0 : Int32} {T : Nat → Int32 × Int32 × Int32} {H : Nat → Nat → Prop} (h12 : m1 ≠ m2) (hm1 : m1 < 6) (hm2 : m2 < 6) (hx : x < 31)
    (h : ∀ (u : St2), rr_G M w u → rr_B T H u → J (nI (x + 1)) u.1 u.2.1 u.2.2.1 u.2.2.2.1 u.2.2.2.2.1 u.2.2.2.2.2.1 u.2.2.2.2.2.2.1 u.2.2.2.2.2.2.2.1 u.2.2.2.2.2.2.2.2.1 u.2.2.2.2.2.2.2.2.2.1 u.2.2.2.2.2.2.2.2.2.2.1 u.2.2.2.2.2.2.2.2.2.2.2.1 u.2.2.2.2.2.2.2.2.2.2.2.2.1 u.2.2.2.2.2.2.2.2.2.2.2.2.2.1 u.2.2.2.2.2.2.2.2.2.2.2.2.2.2.1 u.2.2.2.2.2.2.2.2.2.2.2.2.2.2.2.1 u.2.2.2.2.2.2.2.2.2.2.2.2.2.2.2.2.1 u.2.2.2.2.2.2.2.2.2.2.2.2.2.2.2.2.2.1 u.2.2.2.2.2.2.2.2.2.2.2.2.2.2.2.2.2.2.1 u.2.2.2.2.2.2.2.2.2.2.2.2.2.2.2.2.2.2.2.1 u.2.2.2.2.2.2.2.2.2.2.2.2.2.2.2.2.2.2.2.2)
    (hG : rr_G M w u) (hB : rr_B T H u) : wX_compare_36 post J (nI m1) (nI m2) (nI x) z0 u.1 u.2.1 u.2.2.1 u.2.2.2.1 u.2.2.2.2.1 u.2.2.2.2.2.1 u.2.2.2.2.2.2.1 u.2.2.2.2.2.2.2.1 u.2.2.2.2.2.2.2.2.1 u.2.2.2.2.2.2.2.2.2.1 u.2.2.2.2.2.2.2.2.2.2.1 u.2.2.2.2.2.2.2.2.2.2.2.1 u.2.2.2.2.2.2.2.2.2.2.2.2.1 u.2.2.2.2.2.2.2.2.2.2.2.2.2.1 u.2.2.2.2.2.2.2.2.2.2.2.2.2.2.1 u.2.2.2.2.2.2.2.2.2.2.2.2.2.2.2.1 u.2.2.2.2.2.2.2.2.2.2.2.2.2.2.2.2.1 u.2.2.2.2.2.2.2.2.2.2.2.2.2.2.2.2.2.1 u.2.2.2.2.2.2.2.2.2.2.2.2.2.2.2.2.2.2.1 u.2.2.2.2.2.2.2.2.2.2.2.2.2.2.2.2.2.2.2.1 u.2.2.2.2.2.2.2.2.2.2.2.2.2.2.2.2.2.2.2.2 :=
  br_c (fun _ => rr_cp68 h12 hm1 hm2 hx h hG hB) (fun _ => ⟨pk_in x 31 hx, pk_in x 31 hx, br_c (fun _ => rr_cp68 h12 hm1 hm2 hx h hG hB) (fun _ => rr_cp68 h12 hm1 hm2 hx h hG hB)⟩)
/-- two machines are compared: for a key that both keep the first has what the second has -/
theorem rr_compare {post : St2 → Prop} {u : St2} {M m1 m2 : Nat} {w : Int32} {T : Nat → Int32 × Int32 × Int32} {H : Nat → Nat → Prop} (hS : M ∈ rr_sets) (h12 : m1 ≠ m2) (hm1 : m1 < 6) (hm2 : m2 < 6) (hG : rr_G M w u) (hB : rr_B T H u)
    (h : ∀ u, rr_G M w u → rr_B T (fun a k => H a k ∨ (a = m1 ∧ rr_kp M m1 k ∧ rr_kp M m2 k ∧ H m2 k)) u → post u) : wpX_compare post u (nI m1) (nI m2) := by
  obtain ⟨u_ms, u_ws, u_rs, u_an, u_ns, u_nv, u_nt, u_mg, u_ll, u_a1, u_a2, u_a3, u_a4, u_a5, u_a6, u_a7, u_a8, u_a9, u_a10, u_a11, u_a12⟩ := u
  unfold wpX_compare
  refine rr_growTrees hS hm1 hm2 hG hB (fun y g1 g2 => ?_)
  obtain ⟨y_ms, y_ws, y_rs, y_an, y_ns, y_nv, y_nt, y_mg, y_ll, y_a1, y_a2, y_a3, y_a4, y_a5, y_a6, y_a7, y_a8, y_a9, y_a10, y_a11, y_a12⟩ := y
  refine pk_loop (fun n x (u : St2) => wX_compare_8 post (nI m1) (nI m2) n (nI x) u.1 u.2.1 u.2.2.1 u.2.2.2.1 u.2.2.2.2.1 u.2.2.2.2.2.1 u.2.2.2.2.2.2.1 u.2.2.2.2.2.2.2.1 u.2.2.2.2.2.2.2.2.1 u.2.2.2.2.2.2.2.2.2.1 u.2.2.2.2.2.2.2.2.2.2.1 u.2.2.2.2.2.2.2.2.2.2.2.1 u.2.2.2.2.2.2.2.2.2.2.2.2.1 u.2.2.2.2.2.2.2.2.2.2.2.2.2.1 u.2.2.2.2.2.2.2.2.2.2.2.2.2.2.1 u.2.2.2.2.2.2.2.2.2.2.2.2.2.2.2.1 u.2.2.2.2.2.2.2.2.2.2.2.2.2.2.2.2.1 u.2.2.2.2.2.2.2.2.2.2.2.2.2.2.2.2.2.1 u.2.2.2.2.2.2.2.2.2.2.2.2.2.2.2.2.2.2.1 u.2.2.2.2.2.2.2.2.2.2.2.2.2.2.2.2.2.2.2.1 u.2.2.2.2.2.2.2.2.2.2.2.2.2.2.2.2.2.2.2.2) (fun _ u => rr_G M w u ∧ rr_B T H u) 31 0 (y_ms, y_ws, y_rs, y_an, y_ns, y_nv, y_nt, y_mg, y_ll, y_a1, y_a2, y_a3, y_a4, y_a5, y_a6, y_a7, y_a8, y_a9, y_a10, y_a11, y_a12) (by omega) ⟨g1, g2⟩ ?_ ?_
  · intro n u ⟨hG, hB⟩
    exact br_t (Int32.le_refl _) (rr_cp102 hS h12 hm1 hm2 h hG hB)
  · intro n x u hx ⟨hG, hB⟩ hw
    have hw' : ∀ (u : St2), rr_G M w u → rr_B T H u → wX_compare_8 post (nI m1) (nI m2) n (nI (x + 1)) u.1 u.2.1 u.2.2.1 u.2.2.2.1 u.2.2.2.2.1 u.2.2.2.2.2.1 u.2.2.2.2.2.2.1 u.2.2.2.2.2.2.2.1 u.2.2.2.2.2.2.2.2.1 u.2.2.2.2.2.2.2.2.2.1 u.2.2.2.2.2.2.2.2.2.2.1 u.2.2.2.2.2.2.2.2.2.2.2.1 u.2.2.2.2.2.2.2.2.2.2.2.2.1 u.2.2.2.2.2.2.2.2.2.2.2.2.2.1 u.2.2.2.2.2.2.2.2.2.2.2.2.2.2.1 u.2.2.2.2.2.2.2.2.2.2.2.2.2.2.2.1 u.2.2.2.2.2.2.2.2.2.2.2.2.2.2.2.2.1 u.2.2.2.2.2.2.2.2.2.2.2.2.2.2.2.2.2.1 u.2.2.2.2.2.2.2.2.2.2.2.2.2.2.2.2.2.2.1 u.2.2.2.2.2.2.2.2.2.2.2.2.2.2.2.2.2.2.2.1 u.2.2.2.2.2.2.2.2.2.2.2.2.2.2.2.2.2.2.2.2 := fun u g1 g2 => hw u ⟨g1, g2⟩
    refine br_f (nI_ge (b := 31) hx (by decide)) (pk_eq x 0 (fun _ => rr_cp36 (z0 := 1) h12 hm1 hm2 hx hw' hG hB) (fun z => ⟨by decide, ?_, br_c (fun _ => rr_cp36 h12 hm1 hm2 hx hw' hG hB) (fun _ => rr_cp36 (z0 := 1) h12 hm1 hm2 hx hw' hG hB)⟩))
    obtain ⟨y, rfl⟩ : ∃ y, x = y + 1 := ⟨x - 1, by omega⟩
    rw [nI_pred, show (2 : Int32) = nI 2 from rfl, pk_div (by omega) (by omega) (by omega)]
    exact vp_in_nI (N := 31) (by omega) (by omega)
theorem rr_handOver {post : St2 → Prop} {u : St2} {M c m : Nat} {w : Int32} {T : Nat → Int32 × Int32 × Int32} {H : Nat → Nat → Prop} (hc : c < 6) (hm : m < 6) (hG : rr_G M w u) (hB : rr_B T H u)
    (h : ∀ u, rr_G M w u → rr_B T H u → post u) : wpX_handOver post u (nI c) (nI m) := by
  obtain ⟨u_ms, u_ws, u_rs, u_an, u_ns, u_nv, u_nt, u_mg, u_ll, u_a1, u_a2, u_a3, u_a4, u_a5, u_a6, u_a7, u_a8, u_a9, u_a10, u_a11, u_a12⟩ := u
  refine pk_loop (fun n k (u : St2) => wX_handOver_2 post (nI c) (nI m) n (nI k) u.1 u.2.1 u.2.2.1 u.2.2.2.1 u.2.2.2.2.1 u.2.2.2.2.2.1 u.2.2.2.2.2.2.1 u.2.2.2.2.2.2.2.1 u.2.2.2.2.2.2.2.2.1 u.2.2.2.2.2.2.2.2.2.1 u.2.2.2.2.2.2.2.2.2.2.1 u.2.2.2.2.2.2.2.2.2.2.2.1 u.2.2.2.2.2.2.2.2.2.2.2.2.1 u.2.2.2.2.2.2.2.2.2.2.2.2.2.1 u.2.2.2.2.2.2.2.2.2.2.2.2.2.2.1 u.2.2.2.2.2.2.2.2.2.2.2.2.2.2.2.1 u.2.2.2.2.2.2.2.2.2.2.2.2.2.2.2.2.1 u.2.2.2.2.2.2.2.2.2.2.2.2.2.2.2.2.2.1 u.2.2.2.2.2.2.2.2.2.2.2.2.2.2.2.2.2.2.1 u.2.2.2.2.2.2.2.2.2.2.2.2.2.2.2.2.2.2.2.1 u.2.2.2.2.2.2.2.2.2.2.2.2.2.2.2.2.2.2.2.2) (fun _ u => rr_G M w u ∧ rr_B T H u) 16 0 (u_ms, u_ws, u_rs, u_an, u_ns, u_nv, u_nt, u_mg, u_ll, u_a1, u_a2, u_a3, u_a4, u_a5, u_a6, u_a7, u_a8, u_a9, u_a10, u_a11, u_a12) (by omega) ⟨hG, hB⟩ ?_ ?_
  · intro n u ⟨hG, hB⟩
    exact br_t (Int32.le_refl _) (h u hG hB)
  · intro n k u hk ⟨hG, ⟨⟨l, hl, el⟩, hC⟩⟩ hw
    refine br_f (nI_ge (b := 16) hk (by decide)) (nm_r rr_ixh ⟨vp_in_nI (N := 576) (by omega) (by omega), ?_⟩)
    rw [nI_clamp (show (c * 6 + m) * 16 + k < 2 ^ 31 by omega)]
    have o := hC.2.1 c hc m hm k hk
    refine br_c (fun _ => nm_r (nI_1 k) (hw u ⟨hG, ⟨⟨l, hl, el⟩, hC⟩⟩)) (fun _ => rr_ct el hl (fun g l' hl' => br_f (by decide) ?_) (fun g l' hl' => br_t rfl (nm_r (nI_1 k) (hw (u.1, u.2.1, u.2.2.1, u.2.2.2.1, u.2.2.2.2.1, u.2.2.2.2.2.1, u.2.2.2.2.2.2.1, g, nI l', u.2.2.2.2.2.2.2.2.2.1, u.2.2.2.2.2.2.2.2.2.2.1, u.2.2.2.2.2.2.2.2.2.2.2.1, u.2.2.2.2.2.2.2.2.2.2.2.2.1, u.2.2.2.2.2.2.2.2.2.2.2.2.2.1, u.2.2.2.2.2.2.2.2.2.2.2.2.2.2.1, u.2.2.2.2.2.2.2.2.2.2.2.2.2.2.2.1, u.2.2.2.2.2.2.2.2.2.2.2.2.2.2.2.2.1, u.2.2.2.2.2.2.2.2.2.2.2.2.2.2.2.2.2.1, u.2.2.2.2.2.2.2.2.2.2.2.2.2.2.2.2.2.2.1, u.2.2.2.2.2.2.2.2.2.2.2.2.2.2.2.2.2.2.2.1, u.2.2.2.2.2.2.2.2.2.2.2.2.2.2.2.2.2.2.2.2) ⟨hG, ⟨⟨l', by omega, rfl⟩, hC⟩⟩))))
    refine ⟨vp_in_nI (N := 576) (by omega) (by omega), nm_e ⟨vp_in_nI (N := 576) (by omega) (by omega), nm_e ⟨vp_in_nI (N := 576) (by omega) (by omega), nm_e ⟨rr_narrow o.2.2.2, rr_fits o.2.2.2, ?_⟩⟩⟩⟩
    exact rr_store (u := (u.1, u.2.1, u.2.2.1, u.2.2.2.1, u.2.2.2.2.2.2.2.2.2.2.2.2.2.2.1 ((c * 6 + m) * 16 + k), u.2.2.2.2.2.2.2.2.2.2.2.2.2.2.2.1 ((c * 6 + m) * 16 + k), u.2.2.2.2.2.2.2.2.2.2.2.2.2.2.2.2.1 ((c * 6 + m) * 16 + k), g, nI l', u.2.2.2.2.2.2.2.2.2.1, u.2.2.2.2.2.2.2.2.2.2.1, u.2.2.2.2.2.2.2.2.2.2.2.1, u.2.2.2.2.2.2.2.2.2.2.2.2.1, u.2.2.2.2.2.2.2.2.2.2.2.2.2.1, u.2.2.2.2.2.2.2.2.2.2.2.2.2.2.1, u.2.2.2.2.2.2.2.2.2.2.2.2.2.2.2.1, u.2.2.2.2.2.2.2.2.2.2.2.2.2.2.2.2.1, u.2.2.2.2.2.2.2.2.2.2.2.2.2.2.2.2.2.1, u.2.2.2.2.2.2.2.2.2.2.2.2.2.2.2.2.2.2.1, u.2.2.2.2.2.2.2.2.2.2.2.2.2.2.2.2.2.2.2.1, u.2.2.2.2.2.2.2.2.2.2.2.2.2.2.2.2.2.2.2.2)) hm hk hC o (fun b3 b4 b5 c1 _ _ _ _ => ⟨vp_in_nI (N := 576) (by omega) (by omega), nm_e (nm_r (nI_1 k) (hw (u.1, u.2.1, u.2.2.1, u.2.2.2.1, u.2.2.2.2.2.2.2.2.2.2.2.2.2.2.1 ((c * 6 + m) * 16 + k), u.2.2.2.2.2.2.2.2.2.2.2.2.2.2.2.1 ((c * 6 + m) * 16 + k), u.2.2.2.2.2.2.2.2.2.2.2.2.2.2.2.2.1 ((c * 6 + m) * 16 + k), g, nI l', u.2.2.2.2.2.2.2.2.2.1, u.2.2.2.2.2.2.2.2.2.2.1, b3, b4, b5, upd u.2.2.2.2.2.2.2.2.2.2.2.2.2.2.1 ((c * 6 + m) * 16 + k) 0, u.2.2.2.2.2.2.2.2.2.2.2.2.2.2.2.1, u.2.2.2.2.2.2.2.2.2.2.2.2.2.2.2.2.1, u.2.2.2.2.2.2.2.2.2.2.2.2.2.2.2.2.2.1, u.2.2.2.2.2.2.2.2.2.2.2.2.2.2.2.2.2.2.1, u.2.2.2.2.2.2.2.2.2.2.2.2.2.2.2.2.2.2.2.1, u.2.2.2.2.2.2.2.2.2.2.2.2.2.2.2.2.2.2.2.2) ⟨hG, ⟨⟨l', by omega, rfl⟩, rr_C_hz c1 _⟩⟩))⟩)
end
section
theorem rr_up118 {post : Int32 → St2 → Prop} {u : St2} {M m : Nat} {w : Int32} {T : Nat → Int32 × Int32 × Int32} {H : Nat → Nat → Prop} (hS : M ∈ rr_sets) (hm : m < 6)
    (h : ∀ u, rr_G M w u → rr_B T (fun a k => H a k ∨ (a = m ∧ ∃ b, b < 6 ∧ b ≠ m ∧ rr_bit w b = true ∧ rr_kp M m k ∧ rr_kp M b k ∧ H b k)) u → post 1 u) (hG : rr_G M w u) (hB : rr_B T H u) : ∃ n, wX_up_118 post (nI m) n 0 u.1 u.2.1 u.2.2.1 u.2.2.2.1 u.2.2.2.2.1 u.2.2.2.2.2.1 u.2.2.2.2.2.2.1 u.2.2.2.2.2.2.2.1 u.2.2.2.2.2.2.2.2.1 u.2.2.2.2.2.2.2.2.2.1 u.2.2.2.2.2.2.2.2.2.2.1 u.2.2.2.2.2.2.2.2.2.2.2.1 u.2.2.2.2.2.2.2.2.2.2.2.2.1 u.2.2.2.2.2.2.2.2.2.2.2.2.2.1 u.2.2.2.2.2.2.2.2.2.2.2.2.2.2.1 u.2.2.2.2.2.2.2.2.2.2.2.2.2.2.2.1 u.2.2.2.2.2.2.2.2.2.2.2.2.2.2.2.2.1 u.2.2.2.2.2.2.2.2.2.2.2.2.2.2.2.2.2.1 u.2.2.2.2.2.2.2.2.2.2.2.2.2.2.2.2.2.2.1 u.2.2.2.2.2.2.2.2.2.2.2.2.2.2.2.2.2.2.2.1 u.2.2.2.2.2.2.2.2.2.2.2.2.2.2.2.2.2.2.2.2 := by
  refine pk_loop (fun n x (u : St2) => wX_up_118 post (nI m) n (nI x) u.1 u.2.1 u.2.2.1 u.2.2.2.1 u.2.2.2.2.1 u.2.2.2.2.2.1 u.2.2.2.2.2.2.1 u.2.2.2.2.2.2.2.1 u.2.2.2.2.2.2.2.2.1 u.2.2.2.2.2.2.2.2.2.1 u.2.2.2.2.2.2.2.2.2.2.1 u.2.2.2.2.2.2.2.2.2.2.2.1 u.2.2.2.2.2.2.2.2.2.2.2.2.1 u.2.2.2.2.2.2.2.2.2.2.2.2.2.1 u.2.2.2.2.2.2.2.2.2.2.2.2.2.2.1 u.2.2.2.2.2.2.2.2.2.2.2.2.2.2.2.1 u.2.2.2.2.2.2.2.2.2.2.2.2.2.2.2.2.1 u.2.2.2.2.2.2.2.2.2.2.2.2.2.2.2.2.2.1 u.2.2.2.2.2.2.2.2.2.2.2.2.2.2.2.2.2.2.1 u.2.2.2.2.2.2.2.2.2.2.2.2.2.2.2.2.2.2.2.1 u.2.2.2.2.2.2.2.2.2.2.2.2.2.2.2.2.2.2.2.2) (fun x u => rr_G M w u ∧ rr_B T (fun a k => H a k ∨ (a = m ∧ ∃ b, b < x ∧ b ≠ m ∧ rr_bit w b = true ∧ rr_kp M m k ∧ rr_kp M b k ∧ H b k)) u) 6 0 u (by omega)
    ⟨hG, hB.1, rr_C_sub hB.2 (fun a _ j _ z => Or.inl (z.elim (fun y => y) (fun ⟨_, b, hb, _⟩ => absurd hb (by omega))))⟩ ?_ ?_
  · intro n u ⟨hG, hB⟩
    exact br_t (Int32.le_refl _) (h u hG hB)
  · intro n x u hx ⟨hG, hB⟩ hw
    have hws : u.2.1 = w := hG.2.1
    have skip : (x = m ∨ rr_bit w x = false) → wX_up_118 post (nI m) n (nI (x + 1)) u.1 u.2.1 u.2.2.1 u.2.2.2.1 u.2.2.2.2.1 u.2.2.2.2.2.1 u.2.2.2.2.2.2.1 u.2.2.2.2.2.2.2.1 u.2.2.2.2.2.2.2.2.1 u.2.2.2.2.2.2.2.2.2.1 u.2.2.2.2.2.2.2.2.2.2.1 u.2.2.2.2.2.2.2.2.2.2.2.1 u.2.2.2.2.2.2.2.2.2.2.2.2.1 u.2.2.2.2.2.2.2.2.2.2.2.2.2.1 u.2.2.2.2.2.2.2.2.2.2.2.2.2.2.1 u.2.2.2.2.2.2.2.2.2.2.2.2.2.2.2.1 u.2.2.2.2.2.2.2.2.2.2.2.2.2.2.2.2.1 u.2.2.2.2.2.2.2.2.2.2.2.2.2.2.2.2.2.1 u.2.2.2.2.2.2.2.2.2.2.2.2.2.2.2.2.2.2.1 u.2.2.2.2.2.2.2.2.2.2.2.2.2.2.2.2.2.2.2.1 u.2.2.2.2.2.2.2.2.2.2.2.2.2.2.2.2.2.2.2.2 := by
      intro hsk
      refine hw u ⟨hG, hB.1, rr_C_sub hB.2 (fun a _ j _ z => Or.inl ?_)⟩
      rcases z with z | ⟨z1, b, b1, b2, b3, b4⟩
      · exact Or.inl z
      · refine Or.inr ⟨z1, b, ?_, b2, b3, b4⟩
        have : b ≠ x := by
          intro e
          rcases hsk with y | y
          · exact b2 (e.trans y)
          · rw [e, y] at b3; exact absurd b3 (by decide)
        omega
    refine br_f (nI_ge (b := 6) hx (by decide)) (pk_eq x m (fun z => nm_r (nI_1 x) (skip (Or.inl z))) (fun z => rr_isWorking hx (fun hb => br_f (by decide) ?_) (fun hb => br_t rfl (nm_r (nI_1 x) (skip (Or.inr (by rw [← hws]; exact hb)))))))
    have hb' : rr_bit w x = true := by rw [← hws]; exact hb
    refine rr_compare (u := (u.1, u.2.1, u.2.2.1, u.2.2.2.1, u.2.2.2.2.1, u.2.2.2.2.2.1, u.2.2.2.2.2.2.1, u.2.2.2.2.2.2.2.1, u.2.2.2.2.2.2.2.2.1, u.2.2.2.2.2.2.2.2.2.1, u.2.2.2.2.2.2.2.2.2.2.1, u.2.2.2.2.2.2.2.2.2.2.2.1, u.2.2.2.2.2.2.2.2.2.2.2.2.1, u.2.2.2.2.2.2.2.2.2.2.2.2.2.1, u.2.2.2.2.2.2.2.2.2.2.2.2.2.2.1, u.2.2.2.2.2.2.2.2.2.2.2.2.2.2.2.1, u.2.2.2.2.2.2.2.2.2.2.2.2.2.2.2.2.1, u.2.2.2.2.2.2.2.2.2.2.2.2.2.2.2.2.2.1, u.2.2.2.2.2.2.2.2.2.2.2.2.2.2.2.2.2.2.1, u.2.2.2.2.2.2.2.2.2.2.2.2.2.2.2.2.2.2.2.1, u.2.2.2.2.2.2.2.2.2.2.2.2.2.2.2.2.2.2.2.2)) hS (Ne.symm z) hm hx hG hB (fun u' g1 g2 => ?_)
    obtain ⟨v_ms, v_ws, v_rs, v_an, v_ns, v_nv, v_nt, v_mg, v_ll, v_a1, v_a2, v_a3, v_a4, v_a5, v_a6, v_a7, v_a8, v_a9, v_a10, v_a11, v_a12⟩ := u'
    refine nm_r (nI_1 x) (hw (v_ms, v_ws, v_rs, v_an, v_ns, v_nv, v_nt, v_mg, v_ll, v_a1, v_a2, v_a3, v_a4, v_a5, v_a6, v_a7, v_a8, v_a9, v_a10, v_a11, v_a12) ⟨g1, g2.1, rr_C_sub g2.2 (fun a _ j _ z => Or.inl ?_)⟩)
    rcases z with z | ⟨z1, b, b1, b2, b3, b4, b5, b6⟩
    · exact Or.inl (Or.inl z)
    · by_cases e : b = x
      · rw [e] at b5 b6
        exact Or.inr ⟨z1, b4, b5, Or.inl b6⟩
      · exact Or.inl (Or.inr ⟨z1, b, by omega, b2, b3, b4, b5, b6⟩)
theorem rr_up90 {post : Int32 → St2 → Prop} {u : St2} {M m : Nat} {w : Int32} {T : Nat → Int32 × Int32 × Int32} {H : Nat → Nat → Prop} (hS : M ∈ rr_sets) (hm : m < 6)
    (h : ∀ u, rr_G M w u → rr_B T (fun a k => H a k ∨ (a = m ∧ ∃ b, b < 6 ∧ b ≠ m ∧ rr_bit w b = true ∧ rr_kp M m k ∧ rr_kp M b k ∧ H b k)) u → post 1 u) (hG : rr_G M w u) (hB : rr_B T H u) : ∃ n, wX_up_90 post (nI m) n 0 u.1 u.2.1 u.2.2.1 u.2.2.2.1 u.2.2.2.2.1 u.2.2.2.2.2.1 u.2.2.2.2.2.2.1 u.2.2.2.2.2.2.2.1 u.2.2.2.2.2.2.2.2.1 u.2.2.2.2.2.2.2.2.2.1 u.2.2.2.2.2.2.2.2.2.2.1 u.2.2.2.2.2.2.2.2.2.2.2.1 u.2.2.2.2.2.2.2.2.2.2.2.2.1 u.2.2.2.2.2.2.2.2.2.2.2.2.2.1 u.2.2.2.2.2.2.2.2.2.2.2.2.2.2.1 u.2.2.2.2.2.2.2.2.2.2.2.2.2.2.2.1 u.2.2.2.2.2.2.2.2.2.2.2.2.2.2.2.2.1 u.2.2.2.2.2.2.2.2.2.2.2.2.2.2.2.2.2.1 u.2.2.2.2.2.2.2.2.2.2.2.2.2.2.2.2.2.2.1 u.2.2.2.2.2.2.2.2.2.2.2.2.2.2.2.2.2.2.2.1 u.2.2.2.2.2.2.2.2.2.2.2.2.2.2.2.2.2.2.2.2 := by
  refine pk_loop (fun n x (u : St2) => wX_up_90 post (nI m) n (nI x) u.1 u.2.1 u.2.2.1 u.2.2.2.1 u.2.2.2.2.1 u.2.2.2.2.2.1 u.2.2.2.2.2.2.1 u.2.2.2.2.2.2.2.1 u.2.2.2.2.2.2.2.2.1 u.2.2.2.2.2.2.2.2.2.1 u.2.2.2.2.2.2.2.2.2.2.1 u.2.2.2.2.2.2.2.2.2.2.2.1 u.2.2.2.2.2.2.2.2.2.2.2.2.1 u.2.2.2.2.2.2.2.2.2.2.2.2.2.1 u.2.2.2.2.2.2.2.2.2.2.2.2.2.2.1 u.2.2.2.2.2.2.2.2.2.2.2.2.2.2.2.1 u.2.2.2.2.2.2.2.2.2.2.2.2.2.2.2.2.1 u.2.2.2.2.2.2.2.2.2.2.2.2.2.2.2.2.2.1 u.2.2.2.2.2.2.2.2.2.2.2.2.2.2.2.2.2.2.1 u.2.2.2.2.2.2.2.2.2.2.2.2.2.2.2.2.2.2.2.1 u.2.2.2.2.2.2.2.2.2.2.2.2.2.2.2.2.2.2.2.2) (fun x u => rr_G M w u ∧ rr_B T H u) 6 0 u (by omega) ⟨hG, hB⟩ ?_ ?_
  · intro n u ⟨hG, hB⟩
    exact br_t (Int32.le_refl _) (rr_up118 hS hm h hG hB)
  · intro n x u hx ⟨hG, hB⟩ hw
    refine br_f (nI_ge (b := 6) hx (by decide)) (rr_isWorking hx (fun hb => br_f (by decide) ?_) (fun hb => br_t rfl (nm_r (nI_1 x) (hw u ⟨hG, hB⟩))))
    refine rr_handOver (u := (u.1, u.2.1, u.2.2.1, u.2.2.2.1, u.2.2.2.2.1, u.2.2.2.2.2.1, u.2.2.2.2.2.2.1, u.2.2.2.2.2.2.2.1, u.2.2.2.2.2.2.2.2.1, u.2.2.2.2.2.2.2.2.2.1, u.2.2.2.2.2.2.2.2.2.2.1, u.2.2.2.2.2.2.2.2.2.2.2.1, u.2.2.2.2.2.2.2.2.2.2.2.2.1, u.2.2.2.2.2.2.2.2.2.2.2.2.2.1, u.2.2.2.2.2.2.2.2.2.2.2.2.2.2.1, u.2.2.2.2.2.2.2.2.2.2.2.2.2.2.2.1, u.2.2.2.2.2.2.2.2.2.2.2.2.2.2.2.2.1, u.2.2.2.2.2.2.2.2.2.2.2.2.2.2.2.2.2.1, u.2.2.2.2.2.2.2.2.2.2.2.2.2.2.2.2.2.2.1, u.2.2.2.2.2.2.2.2.2.2.2.2.2.2.2.2.2.2.2.1, u.2.2.2.2.2.2.2.2.2.2.2.2.2.2.2.2.2.2.2.2)) hx hm hG hB (fun u' g1 g2 => ?_)
    obtain ⟨v_ms, v_ws, v_rs, v_an, v_ns, v_nv, v_nt, v_mg, v_ll, v_a1, v_a2, v_a3, v_a4, v_a5, v_a6, v_a7, v_a8, v_a9, v_a10, v_a11, v_a12⟩ := u'
    exact nm_r (nI_1 x) (hw (v_ms, v_ws, v_rs, v_an, v_ns, v_nv, v_nt, v_mg, v_ll, v_a1, v_a2, v_a3, v_a4, v_a5, v_a6, v_a7, v_a8, v_a9, v_a10, v_a11, v_a12) ⟨g1, g2⟩)
theorem rr_up39 {post : Int32 → St2 → Prop} {J : Int32 → Int32 → Int32 → Int32 → Int32 → Int32 → Int32 → Int32 → Int32 → Int32 → (Nat → Int32) → (Nat → Int32) → (Nat → Int32) → (Nat → Int32) → (Nat → Int32) → (Nat → Int32) → (Nat → Int32) → (Nat → Int32) → (Nat → Int32) → (Nat → Int32) → (Nat → Int32) → (Nat → Int32) → Prop}
    {u : St2} {m k : Nat} {x2 : Int32} {T : Nat → Int32 × Int32 × Int32} {H : Nat → Nat → Prop} (hm : m < 6) (hk : k < 16)
    (h : ∀ b6, rr_C T H u.2.2.2.2.2.2.2.2.2.2.2.1 u.2.2.2.2.2.2.2.2.2.2.2.2.1 u.2.2.2.2.2.2.2.2.2.2.2.2.2.1 b6 u.2.2.2.2.2.2.2.2.2.2.2.2.2.2.2.1 u.2.2.2.2.2.2.2.2.2.2.2.2.2.2.2.2.1 → J (nI (k + 1)) u.1 u.2.1 u.2.2.1 u.2.2.2.1 u.2.2.2.2.1 u.2.2.2.2.2.1 u.2.2.2.2.2.2.1 u.2.2.2.2.2.2.2.1 u.2.2.2.2.2.2.2.2.1 u.2.2.2.2.2.2.2.2.2.1 u.2.2.2.2.2.2.2.2.2.2.1 u.2.2.2.2.2.2.2.2.2.2.2.1 u.2.2.2.2.2.2.2.2.2.2.2.2.1 u.2.2.2.2.2.2.2.2.2.2.2.2.2.1 b6 u.2.2.2.2.2.2.2.2.2.2.2.2.2.2.2.1 u.2.2.2.2.2.2.2.2.2.2.2.2.2.2.2.2.1 u.2.2.2.2.2.2.2.2.2.2.2.2.2.2.2.2.2.1 u.2.2.2.2.2.2.2.2.2.2.2.2.2.2.2.2.2.2.1 u.2.2.2.2.2.2.2.2.2.2.2.2.2.2.2.2.2.2.2.1 u.2.2.2.2.2.2.2.2.2.2.2.2.2.2.2.2.2.2.2.2) (hC : rr_C T H u.2.2.2.2.2.2.2.2.2.2.2.1 u.2.2.2.2.2.2.2.2.2.2.2.2.1 u.2.2.2.2.2.2.2.2.2.2.2.2.2.1 u.2.2.2.2.2.2.2.2.2.2.2.2.2.2.1 u.2.2.2.2.2.2.2.2.2.2.2.2.2.2.2.1 u.2.2.2.2.2.2.2.2.2.2.2.2.2.2.2.2.1) : ∃ n, wX_up_39 post J (nI m) x2 (nI k) u.1 u.2.1 u.2.2.1 u.2.2.2.1 u.2.2.2.2.1 u.2.2.2.2.2.1 u.2.2.2.2.2.2.1 u.2.2.2.2.2.2.2.1 u.2.2.2.2.2.2.2.2.1 n 0 u.2.2.2.2.2.2.2.2.2.1 u.2.2.2.2.2.2.2.2.2.2.1 u.2.2.2.2.2.2.2.2.2.2.2.1 u.2.2.2.2.2.2.2.2.2.2.2.2.1 u.2.2.2.2.2.2.2.2.2.2.2.2.2.1 u.2.2.2.2.2.2.2.2.2.2.2.2.2.2.1 u.2.2.2.2.2.2.2.2.2.2.2.2.2.2.2.1 u.2.2.2.2.2.2.2.2.2.2.2.2.2.2.2.2.1 u.2.2.2.2.2.2.2.2.2.2.2.2.2.2.2.2.2.1 u.2.2.2.2.2.2.2.2.2.2.2.2.2.2.2.2.2.2.1 u.2.2.2.2.2.2.2.2.2.2.2.2.2.2.2.2.2.2.2.1 u.2.2.2.2.2.2.2.2.2.2.2.2.2.2.2.2.2.2.2.2 := by
  refine pk_loop (σ := Nat → Int32) (fun n x s => wX_up_39 post J (nI m) x2 (nI k) u.1 u.2.1 u.2.2.1 u.2.2.2.1 u.2.2.2.2.1 u.2.2.2.2.2.1 u.2.2.2.2.2.2.1 u.2.2.2.2.2.2.2.1 u.2.2.2.2.2.2.2.2.1 n (nI x) u.2.2.2.2.2.2.2.2.2.1 u.2.2.2.2.2.2.2.2.2.2.1 u.2.2.2.2.2.2.2.2.2.2.2.1 u.2.2.2.2.2.2.2.2.2.2.2.2.1 u.2.2.2.2.2.2.2.2.2.2.2.2.2.1 s u.2.2.2.2.2.2.2.2.2.2.2.2.2.2.2.1 u.2.2.2.2.2.2.2.2.2.2.2.2.2.2.2.2.1 u.2.2.2.2.2.2.2.2.2.2.2.2.2.2.2.2.2.1 u.2.2.2.2.2.2.2.2.2.2.2.2.2.2.2.2.2.2.1 u.2.2.2.2.2.2.2.2.2.2.2.2.2.2.2.2.2.2.2.1 u.2.2.2.2.2.2.2.2.2.2.2.2.2.2.2.2.2.2.2.2) (fun _ s => rr_C T H u.2.2.2.2.2.2.2.2.2.2.2.1 u.2.2.2.2.2.2.2.2.2.2.2.2.1 u.2.2.2.2.2.2.2.2.2.2.2.2.2.1 s u.2.2.2.2.2.2.2.2.2.2.2.2.2.2.2.1 u.2.2.2.2.2.2.2.2.2.2.2.2.2.2.2.2.1) 6 0 u.2.2.2.2.2.2.2.2.2.2.2.2.2.2.1 (by omega) hC ?_ ?_
  · intro n s hC
    exact br_t (Int32.le_refl _) (nm_r (nI_1 k) (h s hC))
  · intro n x s hx hC hw
    refine br_f (nI_ge (b := 6) hx (by decide)) ?_
    rw [rr_ixh]
    exact ⟨vp_in_nI (N := 576) (by omega) (by omega), nm_e (nm_r (nI_1 x) (hw _ (rr_C_hz hC _)))⟩
/-- a machine comes back, wiped or not -/
theorem rr_up {post : Int32 → St2 → Prop} {u : St2} {M m : Nat} {w x2 : Int32} {T : Nat → Int32 × Int32 × Int32} {H : Nat → Nat → Prop} (hS : M ∈ rr_sets) (hm : m < 6) (hmem : rr_bit (nI M) m = true) (hwk : rr_bit w m = false) (hG : rr_G M w u) (hB : rr_B T H u)
    (h : ∀ u, rr_G M (w ||| ((1 : Int32) <<< (nI m &&& 31))) u → rr_B T (fun a k => (a ≠ m ∧ H a k) ∨ (a = m ∧ ∃ b, b < 6 ∧ b ≠ m ∧ rr_bit (w ||| ((1 : Int32) <<< (nI m &&& 31))) b = true ∧ rr_kp M m k ∧ rr_kp M b k ∧ (b ≠ m ∧ H b k))) u → post 1 u) : wpX_up post u (nI m) x2 := by
  obtain ⟨u_ms, u_ws, u_rs, u_an, u_ns, u_nv, u_nt, u_mg, u_ll, u_a1, u_a2, u_a3, u_a4, u_a5, u_a6, u_a7, u_a8, u_a9, u_a10, u_a11, u_a12⟩ := u
  unfold wpX_up
  have hms : u_ms = nI M := hG.1
  have hws : u_ws = w := hG.2.1
  have fin : ∀ (u : St2), rr_G M w u → rr_B T (fun a k => a ≠ m ∧ H a k) u → wX_up_76 post (nI m) u.1 u.2.1 u.2.2.1 u.2.2.2.1 u.2.2.2.2.1 u.2.2.2.2.2.1 u.2.2.2.2.2.2.1 u.2.2.2.2.2.2.2.1 u.2.2.2.2.2.2.2.2.1 u.2.2.2.2.2.2.2.2.2.1 u.2.2.2.2.2.2.2.2.2.2.1 u.2.2.2.2.2.2.2.2.2.2.2.1 u.2.2.2.2.2.2.2.2.2.2.2.2.1 u.2.2.2.2.2.2.2.2.2.2.2.2.2.1 u.2.2.2.2.2.2.2.2.2.2.2.2.2.2.1 u.2.2.2.2.2.2.2.2.2.2.2.2.2.2.2.1 u.2.2.2.2.2.2.2.2.2.2.2.2.2.2.2.2.1 u.2.2.2.2.2.2.2.2.2.2.2.2.2.2.2.2.2.1 u.2.2.2.2.2.2.2.2.2.2.2.2.2.2.2.2.2.2.1 u.2.2.2.2.2.2.2.2.2.2.2.2.2.2.2.2.2.2.2.1 u.2.2.2.2.2.2.2.2.2.2.2.2.2.2.2.2.2.2.2.2 := by
    intro u hG hB
    have hws : u.2.1 = w := hG.2.1
    refine nm_r (e' := w ||| ((1 : Int32) <<< (nI m &&& 31))) (by rw [hws]) (rr_up90 (u := (u.1, (w ||| ((1 : Int32) <<< (nI m &&& 31))), u.2.2.1, u.2.2.2.1, u.2.2.2.2.1, u.2.2.2.2.2.1, u.2.2.2.2.2.2.1, u.2.2.2.2.2.2.2.1, u.2.2.2.2.2.2.2.2.1, u.2.2.2.2.2.2.2.2.2.1, u.2.2.2.2.2.2.2.2.2.2.1, u.2.2.2.2.2.2.2.2.2.2.2.1, u.2.2.2.2.2.2.2.2.2.2.2.2.1, u.2.2.2.2.2.2.2.2.2.2.2.2.2.1, u.2.2.2.2.2.2.2.2.2.2.2.2.2.2.1, u.2.2.2.2.2.2.2.2.2.2.2.2.2.2.2.1, u.2.2.2.2.2.2.2.2.2.2.2.2.2.2.2.2.1, u.2.2.2.2.2.2.2.2.2.2.2.2.2.2.2.2.2.1, u.2.2.2.2.2.2.2.2.2.2.2.2.2.2.2.2.2.2.1, u.2.2.2.2.2.2.2.2.2.2.2.2.2.2.2.2.2.2.2.1, u.2.2.2.2.2.2.2.2.2.2.2.2.2.2.2.2.2.2.2.2)) (w := w ||| ((1 : Int32) <<< (nI m &&& 31))) hS hm h ⟨hG.1, rfl, hG.2.2⟩ hB)
  refine rr_isMember (u := (u_ms, u_ws, u_rs, u_an, u_ns, u_nv, u_nt, u_mg, u_ll, u_a1, u_a2, u_a3, u_a4, u_a5, u_a6, u_a7, u_a8, u_a9, u_a10, u_a11, u_a12)) hm (fun _ => br_f (by decide) (rr_isWorking (u := (u_ms, u_ws, u_rs, u_an, u_ns, u_nv, u_nt, u_mg, u_ll, u_a1, u_a2, u_a3, u_a4, u_a5, u_a6, u_a7, u_a8, u_a9, u_a10, u_a11, u_a12)) hm (fun z => ?_) (fun _ => br_t rfl ?_))) (fun z => ?_)
  · have z' : rr_bit u_ws m = true := z
    rw [hws, hwk] at z'
    exact absurd z' (by decide)
  · refine pk_loop (fun n k (u : St2) => wX_up_20 post (nI m) x2 n (nI k) u.1 u.2.1 u.2.2.1 u.2.2.2.1 u.2.2.2.2.1 u.2.2.2.2.2.1 u.2.2.2.2.2.2.1 u.2.2.2.2.2.2.2.1 u.2.2.2.2.2.2.2.2.1 u.2.2.2.2.2.2.2.2.2.1 u.2.2.2.2.2.2.2.2.2.2.1 u.2.2.2.2.2.2.2.2.2.2.2.1 u.2.2.2.2.2.2.2.2.2.2.2.2.1 u.2.2.2.2.2.2.2.2.2.2.2.2.2.1 u.2.2.2.2.2.2.2.2.2.2.2.2.2.2.1 u.2.2.2.2.2.2.2.2.2.2.2.2.2.2.2.1 u.2.2.2.2.2.2.2.2.2.2.2.2.2.2.2.2.1 u.2.2.2.2.2.2.2.2.2.2.2.2.2.2.2.2.2.1 u.2.2.2.2.2.2.2.2.2.2.2.2.2.2.2.2.2.2.1 u.2.2.2.2.2.2.2.2.2.2.2.2.2.2.2.2.2.2.2.1 u.2.2.2.2.2.2.2.2.2.2.2.2.2.2.2.2.2.2.2.2) (fun _ u => rr_G M w u ∧ rr_B T (fun a k => a ≠ m ∧ H a k) u) 16 0 (u_ms, u_ws, u_rs, u_an, u_ns, u_nv, u_nt, u_mg, u_ll, u_a1, u_a2, u_a3, u_a4, u_a5, u_a6, u_a7, u_a8, u_a9, u_a10, u_a11, u_a12) (by omega) ⟨hG, hB.1, rr_C_sub hB.2 (fun a _ j _ z => Or.inl z.2)⟩ ?_ ?_
    · intro n u ⟨hG, hB⟩
      exact br_t (Int32.le_refl _) (fin u hG hB)
    · intro n k u hk ⟨hG, hB⟩ hw
      refine br_f (nI_ge (b := 16) hk (by decide)) (br_c (fun _ => fin u hG hB) (fun _ => ?_))
      refine rr_erase (u := (u.1, u.2.1, u.2.2.1, u.2.2.2.1, u.2.2.2.2.1, u.2.2.2.2.2.1, u.2.2.2.2.2.2.1, u.2.2.2.2.2.2.2.1, u.2.2.2.2.2.2.2.2.1, u.2.2.2.2.2.2.2.2.2.1, u.2.2.2.2.2.2.2.2.2.2.1, u.2.2.2.2.2.2.2.2.2.2.2.1, u.2.2.2.2.2.2.2.2.2.2.2.2.1, u.2.2.2.2.2.2.2.2.2.2.2.2.2.1, u.2.2.2.2.2.2.2.2.2.2.2.2.2.2.1, u.2.2.2.2.2.2.2.2.2.2.2.2.2.2.2.1, u.2.2.2.2.2.2.2.2.2.2.2.2.2.2.2.2.1, u.2.2.2.2.2.2.2.2.2.2.2.2.2.2.2.2.2.1, u.2.2.2.2.2.2.2.2.2.2.2.2.2.2.2.2.2.2.1, u.2.2.2.2.2.2.2.2.2.2.2.2.2.2.2.2.2.2.2.1, u.2.2.2.2.2.2.2.2.2.2.2.2.2.2.2.2.2.2.2.2)) hm hk hB.2 (fun y => y.1 rfl) (fun b3 b4 b5 c1 => ?_)
      exact rr_up39 (u := (u.1, u.2.1, u.2.2.1, u.2.2.2.1, u.2.2.2.2.1, u.2.2.2.2.2.1, u.2.2.2.2.2.2.1, u.2.2.2.2.2.2.2.1, u.2.2.2.2.2.2.2.2.1, u.2.2.2.2.2.2.2.2.2.1, u.2.2.2.2.2.2.2.2.2.2.1, b3, b4, b5, u.2.2.2.2.2.2.2.2.2.2.2.2.2.2.1, u.2.2.2.2.2.2.2.2.2.2.2.2.2.2.2.1, u.2.2.2.2.2.2.2.2.2.2.2.2.2.2.2.2.1, u.2.2.2.2.2.2.2.2.2.2.2.2.2.2.2.2.2.1, u.2.2.2.2.2.2.2.2.2.2.2.2.2.2.2.2.2.2.1, u.2.2.2.2.2.2.2.2.2.2.2.2.2.2.2.2.2.2.2.1, u.2.2.2.2.2.2.2.2.2.2.2.2.2.2.2.2.2.2.2.2)) hm hk (fun b6 c2 => hw (u.1, u.2.1, u.2.2.1, u.2.2.2.1, u.2.2.2.2.1, u.2.2.2.2.2.1, u.2.2.2.2.2.2.1, u.2.2.2.2.2.2.2.1, u.2.2.2.2.2.2.2.2.1, u.2.2.2.2.2.2.2.2.2.1, u.2.2.2.2.2.2.2.2.2.2.1, b3, b4, b5, b6, u.2.2.2.2.2.2.2.2.2.2.2.2.2.2.2.1, u.2.2.2.2.2.2.2.2.2.2.2.2.2.2.2.2.1, u.2.2.2.2.2.2.2.2.2.2.2.2.2.2.2.2.2.1, u.2.2.2.2.2.2.2.2.2.2.2.2.2.2.2.2.2.2.1, u.2.2.2.2.2.2.2.2.2.2.2.2.2.2.2.2.2.2.2.1, u.2.2.2.2.2.2.2.2.2.2.2.2.2.2.2.2.2.2.2.2) ⟨hG, hB.1, c2⟩) c1
  · have z' : rr_bit u_ms m = false := z
    rw [hms, hmem] at z'
    exact absurd z' (by decide)
theorem rr_compareAll {post : St2 → Prop} {u : St2} {M : Nat} {w : Int32} {T : Nat → Int32 × Int32 × Int32} {H : Nat → Nat → Prop} (hS : M ∈ rr_sets) (hG : rr_G M w u) (hB : rr_B T H u)
    (h : ∀ u, rr_G M w u → rr_B T H u → post u) : wpX_compareAll post u := by
  obtain ⟨u_ms, u_ws, u_rs, u_an, u_ns, u_nv, u_nt, u_mg, u_ll, u_a1, u_a2, u_a3, u_a4, u_a5, u_a6, u_a7, u_a8, u_a9, u_a10, u_a11, u_a12⟩ := u
  refine pk_loop (fun n x (u : St2) => wX_compareAll_2 post n (nI x) u.1 u.2.1 u.2.2.1 u.2.2.2.1 u.2.2.2.2.1 u.2.2.2.2.2.1 u.2.2.2.2.2.2.1 u.2.2.2.2.2.2.2.1 u.2.2.2.2.2.2.2.2.1 u.2.2.2.2.2.2.2.2.2.1 u.2.2.2.2.2.2.2.2.2.2.1 u.2.2.2.2.2.2.2.2.2.2.2.1 u.2.2.2.2.2.2.2.2.2.2.2.2.1 u.2.2.2.2.2.2.2.2.2.2.2.2.2.1 u.2.2.2.2.2.2.2.2.2.2.2.2.2.2.1 u.2.2.2.2.2.2.2.2.2.2.2.2.2.2.2.1 u.2.2.2.2.2.2.2.2.2.2.2.2.2.2.2.2.1 u.2.2.2.2.2.2.2.2.2.2.2.2.2.2.2.2.2.1 u.2.2.2.2.2.2.2.2.2.2.2.2.2.2.2.2.2.2.1 u.2.2.2.2.2.2.2.2.2.2.2.2.2.2.2.2.2.2.2.1 u.2.2.2.2.2.2.2.2.2.2.2.2.2.2.2.2.2.2.2.2) (fun _ u => rr_G M w u ∧ rr_B T H u) 6 0 (u_ms, u_ws, u_rs, u_an, u_ns, u_nv, u_nt, u_mg, u_ll, u_a1, u_a2, u_a3, u_a4, u_a5, u_a6, u_a7, u_a8, u_a9, u_a10, u_a11, u_a12) (by omega) ⟨hG, hB⟩ ?_ ?_
  · intro n u ⟨hG, hB⟩
    exact br_t (Int32.le_refl _) (h u hG hB)
  · intro n x u hx ⟨hG, hB⟩ hw
    refine br_f (nI_ge (b := 6) hx (by decide)) (nm_r (nI_1 x) ?_)
    refine pk_loop (fun n' y (u : St2) => wX_compareAll_12 post (wX_compareAll_2 post n) (nI x) n' (nI y) u.1 u.2.1 u.2.2.1 u.2.2.2.1 u.2.2.2.2.1 u.2.2.2.2.2.1 u.2.2.2.2.2.2.1 u.2.2.2.2.2.2.2.1 u.2.2.2.2.2.2.2.2.1 u.2.2.2.2.2.2.2.2.2.1 u.2.2.2.2.2.2.2.2.2.2.1 u.2.2.2.2.2.2.2.2.2.2.2.1 u.2.2.2.2.2.2.2.2.2.2.2.2.1 u.2.2.2.2.2.2.2.2.2.2.2.2.2.1 u.2.2.2.2.2.2.2.2.2.2.2.2.2.2.1 u.2.2.2.2.2.2.2.2.2.2.2.2.2.2.2.1 u.2.2.2.2.2.2.2.2.2.2.2.2.2.2.2.2.1 u.2.2.2.2.2.2.2.2.2.2.2.2.2.2.2.2.2.1 u.2.2.2.2.2.2.2.2.2.2.2.2.2.2.2.2.2.2.1 u.2.2.2.2.2.2.2.2.2.2.2.2.2.2.2.2.2.2.2.1 u.2.2.2.2.2.2.2.2.2.2.2.2.2.2.2.2.2.2.2.2) (fun y u => x < y ∧ rr_G M w u ∧ rr_B T H u) 6 (x + 1) u (by omega) ⟨by omega, hG, hB⟩ ?_ ?_
    · intro n' u ⟨_, hG, hB⟩
      exact br_t (Int32.le_refl _) (nm_r (nI_1 x) (hw u ⟨hG, hB⟩))
    · intro n' y u hy ⟨hxy, hG, hB⟩ hw'
      refine br_f (nI_ge (b := 6) hy (by decide)) (rr_isWorking hx (fun _ => br_f (by decide) (rr_isWorking hy (fun _ => br_f (by decide) ?_) (fun _ => br_t rfl (nm_r (nI_1 y) (hw' u ⟨by omega, hG, hB⟩))))) (fun _ => br_t rfl (nm_r (nI_1 y) (hw' u ⟨by omega, hG, hB⟩))))
      refine rr_compare (u := (u.1, u.2.1, u.2.2.1, u.2.2.2.1, u.2.2.2.2.1, u.2.2.2.2.2.1, u.2.2.2.2.2.2.1, u.2.2.2.2.2.2.2.1, u.2.2.2.2.2.2.2.2.1, u.2.2.2.2.2.2.2.2.2.1, u.2.2.2.2.2.2.2.2.2.2.1, u.2.2.2.2.2.2.2.2.2.2.2.1, u.2.2.2.2.2.2.2.2.2.2.2.2.1, u.2.2.2.2.2.2.2.2.2.2.2.2.2.1, u.2.2.2.2.2.2.2.2.2.2.2.2.2.2.1, u.2.2.2.2.2.2.2.2.2.2.2.2.2.2.2.1, u.2.2.2.2.2.2.2.2.2.2.2.2.2.2.2.2.1, u.2.2.2.2.2.2.2.2.2.2.2.2.2.2.2.2.2.1, u.2.2.2.2.2.2.2.2.2.2.2.2.2.2.2.2.2.2.1, u.2.2.2.2.2.2.2.2.2.2.2.2.2.2.2.2.2.2.2.1, u.2.2.2.2.2.2.2.2.2.2.2.2.2.2.2.2.2.2.2.2)) hS (by omega) hx hy hG hB (fun u' g1 g2 => ?_)
      obtain ⟨v_ms, v_ws, v_rs, v_an, v_ns, v_nv, v_nt, v_mg, v_ll, v_a1, v_a2, v_a3, v_a4, v_a5, v_a6, v_a7, v_a8, v_a9, v_a10, v_a11, v_a12⟩ := u'
      exact nm_r (nI_1 y) (hw' (v_ms, v_ws, v_rs, v_an, v_ns, v_nv, v_nt, v_mg, v_ll, v_a1, v_a2, v_a3, v_a4, v_a5, v_a6, v_a7, v_a8, v_a9, v_a10, v_a11, v_a12) ⟨by omega, g1, g2.1, rr_C_sub g2.2 (fun a _ j _ z => Or.inl (Or.inl z))⟩)
theorem rr_dropOthers {post : St2 → Prop} {u : St2} {M : Nat} {w : Int32} {T : Nat → Int32 × Int32 × Int32} (hS : M ∈ rr_sets) (hG : rr_G M w u) (hB : rr_B T (rr_kp M) u)
    (h : ∀ u, rr_G M w u → rr_B T (rr_kp M) u → post u) : wpX_dropOthers post u := by
  obtain ⟨u_ms, u_ws, u_rs, u_an, u_ns, u_nv, u_nt, u_mg, u_ll, u_a1, u_a2, u_a3, u_a4, u_a5, u_a6, u_a7, u_a8, u_a9, u_a10, u_a11, u_a12⟩ := u
  refine pk_loop (fun n m (u : St2) => wX_dropOthers_2 post n (nI m) u.1 u.2.1 u.2.2.1 u.2.2.2.1 u.2.2.2.2.1 u.2.2.2.2.2.1 u.2.2.2.2.2.2.1 u.2.2.2.2.2.2.2.1 u.2.2.2.2.2.2.2.2.1 u.2.2.2.2.2.2.2.2.2.1 u.2.2.2.2.2.2.2.2.2.2.1 u.2.2.2.2.2.2.2.2.2.2.2.1 u.2.2.2.2.2.2.2.2.2.2.2.2.1 u.2.2.2.2.2.2.2.2.2.2.2.2.2.1 u.2.2.2.2.2.2.2.2.2.2.2.2.2.2.1 u.2.2.2.2.2.2.2.2.2.2.2.2.2.2.2.1 u.2.2.2.2.2.2.2.2.2.2.2.2.2.2.2.2.1 u.2.2.2.2.2.2.2.2.2.2.2.2.2.2.2.2.2.1 u.2.2.2.2.2.2.2.2.2.2.2.2.2.2.2.2.2.2.1 u.2.2.2.2.2.2.2.2.2.2.2.2.2.2.2.2.2.2.2.1 u.2.2.2.2.2.2.2.2.2.2.2.2.2.2.2.2.2.2.2.2) (fun _ u => rr_G M w u ∧ rr_B T (rr_kp M) u) 6 0 (u_ms, u_ws, u_rs, u_an, u_ns, u_nv, u_nt, u_mg, u_ll, u_a1, u_a2, u_a3, u_a4, u_a5, u_a6, u_a7, u_a8, u_a9, u_a10, u_a11, u_a12) (by omega) ⟨hG, hB⟩ ?_ ?_
  · intro n u ⟨hG, hB⟩
    refine br_t (Int32.le_refl _) ?_
    refine pk_loop (σ := Nat → Int32) (fun n i s => wX_dropOthers_53 post u.1 u.2.1 u.2.2.1 u.2.2.2.1 u.2.2.2.2.1 u.2.2.2.2.2.1 u.2.2.2.2.2.2.1 u.2.2.2.2.2.2.2.1 u.2.2.2.2.2.2.2.2.1 n (nI i) u.2.2.2.2.2.2.2.2.2.1 u.2.2.2.2.2.2.2.2.2.2.1 u.2.2.2.2.2.2.2.2.2.2.2.1 u.2.2.2.2.2.2.2.2.2.2.2.2.1 u.2.2.2.2.2.2.2.2.2.2.2.2.2.1 s u.2.2.2.2.2.2.2.2.2.2.2.2.2.2.2.1 u.2.2.2.2.2.2.2.2.2.2.2.2.2.2.2.2.1 u.2.2.2.2.2.2.2.2.2.2.2.2.2.2.2.2.2.1 u.2.2.2.2.2.2.2.2.2.2.2.2.2.2.2.2.2.2.1 u.2.2.2.2.2.2.2.2.2.2.2.2.2.2.2.2.2.2.2.1 u.2.2.2.2.2.2.2.2.2.2.2.2.2.2.2.2.2.2.2.2) (fun _ s => rr_C T (rr_kp M) u.2.2.2.2.2.2.2.2.2.2.2.1 u.2.2.2.2.2.2.2.2.2.2.2.2.1 u.2.2.2.2.2.2.2.2.2.2.2.2.2.1 s u.2.2.2.2.2.2.2.2.2.2.2.2.2.2.2.1 u.2.2.2.2.2.2.2.2.2.2.2.2.2.2.2.2.1) 576 0 u.2.2.2.2.2.2.2.2.2.2.2.2.2.2.1 (by omega) hB.2 ?_ ?_
    · intro n s hC
      exact br_t (Int32.le_refl _) (h (u.1, u.2.1, u.2.2.1, u.2.2.2.1, u.2.2.2.2.1, u.2.2.2.2.2.1, u.2.2.2.2.2.2.1, u.2.2.2.2.2.2.2.1, u.2.2.2.2.2.2.2.2.1, u.2.2.2.2.2.2.2.2.2.1, u.2.2.2.2.2.2.2.2.2.2.1, u.2.2.2.2.2.2.2.2.2.2.2.1, u.2.2.2.2.2.2.2.2.2.2.2.2.1, u.2.2.2.2.2.2.2.2.2.2.2.2.2.1, s, u.2.2.2.2.2.2.2.2.2.2.2.2.2.2.2.1, u.2.2.2.2.2.2.2.2.2.2.2.2.2.2.2.2.1, u.2.2.2.2.2.2.2.2.2.2.2.2.2.2.2.2.2.1, u.2.2.2.2.2.2.2.2.2.2.2.2.2.2.2.2.2.2.1, u.2.2.2.2.2.2.2.2.2.2.2.2.2.2.2.2.2.2.2.1, u.2.2.2.2.2.2.2.2.2.2.2.2.2.2.2.2.2.2.2.2) hG ⟨hB.1, hC⟩)
    · intro n i s hi hC hw
      exact br_f (nI_ge (b := 576) hi (by decide)) ⟨pk_in i 576 hi, nm_e (nm_r (nI_1 i) (hw _ (rr_C_hz hC _)))⟩
  · intro n m u hm ⟨hG, hB⟩ hw
    refine br_f (nI_ge (b := 6) hm (by decide)) ?_
    refine pk_loop (fun n' k (u : St2) => wX_dropOthers_10 post (wX_dropOthers_2 post n) (nI m) n' (nI k) u.1 u.2.1 u.2.2.1 u.2.2.2.1 u.2.2.2.2.1 u.2.2.2.2.2.1 u.2.2.2.2.2.2.1 u.2.2.2.2.2.2.2.1 u.2.2.2.2.2.2.2.2.1 u.2.2.2.2.2.2.2.2.2.1 u.2.2.2.2.2.2.2.2.2.2.1 u.2.2.2.2.2.2.2.2.2.2.2.1 u.2.2.2.2.2.2.2.2.2.2.2.2.1 u.2.2.2.2.2.2.2.2.2.2.2.2.2.1 u.2.2.2.2.2.2.2.2.2.2.2.2.2.2.1 u.2.2.2.2.2.2.2.2.2.2.2.2.2.2.2.1 u.2.2.2.2.2.2.2.2.2.2.2.2.2.2.2.2.1 u.2.2.2.2.2.2.2.2.2.2.2.2.2.2.2.2.2.1 u.2.2.2.2.2.2.2.2.2.2.2.2.2.2.2.2.2.2.1 u.2.2.2.2.2.2.2.2.2.2.2.2.2.2.2.2.2.2.2.1 u.2.2.2.2.2.2.2.2.2.2.2.2.2.2.2.2.2.2.2.2) (fun _ u => rr_G M w u ∧ rr_B T (rr_kp M) u) 16 0 u (by omega) ⟨hG, hB⟩ ?_ ?_
    · intro n' u ⟨hG, hB⟩
      exact br_t (Int32.le_refl _) (nm_r (nI_1 m) (hw u ⟨hG, hB⟩))
    · intro n' k u hk ⟨hG, hB⟩ hw'
      have hms : u.1 = nI M := hG.1
      have er : ∀ (u : St2), rr_G M w u → rr_B T (rr_kp M) u → ¬ rr_kp M m k → wX_dropOthers_33 post (wX_dropOthers_2 post n) (wX_dropOthers_10 post (wX_dropOthers_2 post n) (nI m) n') (nI m) (nI k) u.1 u.2.1 u.2.2.1 u.2.2.2.1 u.2.2.2.2.1 u.2.2.2.2.2.1 u.2.2.2.2.2.2.1 u.2.2.2.2.2.2.2.1 u.2.2.2.2.2.2.2.2.1 u.2.2.2.2.2.2.2.2.2.1 u.2.2.2.2.2.2.2.2.2.2.1 u.2.2.2.2.2.2.2.2.2.2.2.1 u.2.2.2.2.2.2.2.2.2.2.2.2.1 u.2.2.2.2.2.2.2.2.2.2.2.2.2.1 u.2.2.2.2.2.2.2.2.2.2.2.2.2.2.1 u.2.2.2.2.2.2.2.2.2.2.2.2.2.2.2.1 u.2.2.2.2.2.2.2.2.2.2.2.2.2.2.2.2.1 u.2.2.2.2.2.2.2.2.2.2.2.2.2.2.2.2.2.1 u.2.2.2.2.2.2.2.2.2.2.2.2.2.2.2.2.2.2.1 u.2.2.2.2.2.2.2.2.2.2.2.2.2.2.2.2.2.2.2.1 u.2.2.2.2.2.2.2.2.2.2.2.2.2.2.2.2.2.2.2.2 := by
        intro u hG hB hn
        exact rr_erase (u := (u.1, u.2.1, u.2.2.1, u.2.2.2.1, u.2.2.2.2.1, u.2.2.2.2.2.1, u.2.2.2.2.2.2.1, u.2.2.2.2.2.2.2.1, u.2.2.2.2.2.2.2.2.1, u.2.2.2.2.2.2.2.2.2.1, u.2.2.2.2.2.2.2.2.2.2.1, u.2.2.2.2.2.2.2.2.2.2.2.1, u.2.2.2.2.2.2.2.2.2.2.2.2.1, u.2.2.2.2.2.2.2.2.2.2.2.2.2.1, u.2.2.2.2.2.2.2.2.2.2.2.2.2.2.1, u.2.2.2.2.2.2.2.2.2.2.2.2.2.2.2.1, u.2.2.2.2.2.2.2.2.2.2.2.2.2.2.2.2.1, u.2.2.2.2.2.2.2.2.2.2.2.2.2.2.2.2.2.1, u.2.2.2.2.2.2.2.2.2.2.2.2.2.2.2.2.2.2.1, u.2.2.2.2.2.2.2.2.2.2.2.2.2.2.2.2.2.2.2.1, u.2.2.2.2.2.2.2.2.2.2.2.2.2.2.2.2.2.2.2.2)) hm hk hB.2 hn (fun b3 b4 b5 c1 => nm_r (nI_1 k) (hw' (u.1, u.2.1, u.2.2.1, u.2.2.2.1, u.2.2.2.2.1, u.2.2.2.2.2.1, u.2.2.2.2.2.2.1, u.2.2.2.2.2.2.2.1, u.2.2.2.2.2.2.2.2.1, u.2.2.2.2.2.2.2.2.2.1, u.2.2.2.2.2.2.2.2.2.2.1, b3, b4, b5, u.2.2.2.2.2.2.2.2.2.2.2.2.2.2.1, u.2.2.2.2.2.2.2.2.2.2.2.2.2.2.2.1, u.2.2.2.2.2.2.2.2.2.2.2.2.2.2.2.2.1, u.2.2.2.2.2.2.2.2.2.2.2.2.2.2.2.2.2.1, u.2.2.2.2.2.2.2.2.2.2.2.2.2.2.2.2.2.2.1, u.2.2.2.2.2.2.2.2.2.2.2.2.2.2.2.2.2.2.2.1, u.2.2.2.2.2.2.2.2.2.2.2.2.2.2.2.2.2.2.2.2) ⟨hG, hB.1, c1⟩))
      refine br_f (nI_ge (b := 16) hk (by decide)) (rr_isMember hm (fun _ => br_f (by decide) ?_) (fun hb => br_t rfl (er u hG hB ?_)))
      · exact rr_keeps (u := (u.1, u.2.1, u.2.2.1, u.2.2.2.1, u.2.2.2.2.1, u.2.2.2.2.2.1, u.2.2.2.2.2.2.1, u.2.2.2.2.2.2.2.1, u.2.2.2.2.2.2.2.2.1, u.2.2.2.2.2.2.2.2.2.1, u.2.2.2.2.2.2.2.2.2.2.1, u.2.2.2.2.2.2.2.2.2.2.2.1, u.2.2.2.2.2.2.2.2.2.2.2.2.1, u.2.2.2.2.2.2.2.2.2.2.2.2.2.1, u.2.2.2.2.2.2.2.2.2.2.2.2.2.2.1, u.2.2.2.2.2.2.2.2.2.2.2.2.2.2.2.1, u.2.2.2.2.2.2.2.2.2.2.2.2.2.2.2.2.1, u.2.2.2.2.2.2.2.2.2.2.2.2.2.2.2.2.2.1, u.2.2.2.2.2.2.2.2.2.2.2.2.2.2.2.2.2.2.1, u.2.2.2.2.2.2.2.2.2.2.2.2.2.2.2.2.2.2.2.1, u.2.2.2.2.2.2.2.2.2.2.2.2.2.2.2.2.2.2.2.2)) hS hG hm hk (fun b9 _ => br_f (by decide) (nm_r (nI_1 k) (hw' (u.1, u.2.1, u.2.2.1, u.2.2.2.1, u.2.2.2.2.1, u.2.2.2.2.2.1, u.2.2.2.2.2.2.1, u.2.2.2.2.2.2.2.1, u.2.2.2.2.2.2.2.2.1, u.2.2.2.2.2.2.2.2.2.1, u.2.2.2.2.2.2.2.2.2.2.1, u.2.2.2.2.2.2.2.2.2.2.2.1, u.2.2.2.2.2.2.2.2.2.2.2.2.1, u.2.2.2.2.2.2.2.2.2.2.2.2.2.1, u.2.2.2.2.2.2.2.2.2.2.2.2.2.2.1, u.2.2.2.2.2.2.2.2.2.2.2.2.2.2.2.1, u.2.2.2.2.2.2.2.2.2.2.2.2.2.2.2.2.1, b9, u.2.2.2.2.2.2.2.2.2.2.2.2.2.2.2.2.2.2.1, u.2.2.2.2.2.2.2.2.2.2.2.2.2.2.2.2.2.2.2.1, u.2.2.2.2.2.2.2.2.2.2.2.2.2.2.2.2.2.2.2.2) ⟨hG, hB⟩))) (fun b9 kn => br_t rfl (er (u.1, u.2.1, u.2.2.1, u.2.2.2.1, u.2.2.2.2.1, u.2.2.2.2.2.1, u.2.2.2.2.2.2.1, u.2.2.2.2.2.2.2.1, u.2.2.2.2.2.2.2.2.1, u.2.2.2.2.2.2.2.2.2.1, u.2.2.2.2.2.2.2.2.2.2.1, u.2.2.2.2.2.2.2.2.2.2.2.1, u.2.2.2.2.2.2.2.2.2.2.2.2.1, u.2.2.2.2.2.2.2.2.2.2.2.2.2.1, u.2.2.2.2.2.2.2.2.2.2.2.2.2.2.1, u.2.2.2.2.2.2.2.2.2.2.2.2.2.2.2.1, u.2.2.2.2.2.2.2.2.2.2.2.2.2.2.2.2.1, b9, u.2.2.2.2.2.2.2.2.2.2.2.2.2.2.2.2.2.2.1, u.2.2.2.2.2.2.2.2.2.2.2.2.2.2.2.2.2.2.2.1, u.2.2.2.2.2.2.2.2.2.2.2.2.2.2.2.2.2.2.2.2) hG hB kn))
      · intro ⟨j, hj, e⟩
        have y := (rr_F3 M hS k hk j hj).2
        have hb' : rr_bit u.1 m = false := hb
        rw [hms, ← e, y] at hb'
        exact absurd hb' (by decide)
/-- every key is moved to the machines that keep it among the new members -/
theorem rr_moveTo {post : St2 → Prop} {u : St2} {M M' : Nat} {T : Nat → Int32 × Int32 × Int32} {H : Nat → Nat → Prop} (hS : M ∈ rr_sets) (hS' : M' ∈ rr_sets) (hms : u.1 = nI M) (hB : rr_B T H u) (h2 : ∀ k, k < 16 → rr_two M k H)
    (h : ∀ u, rr_G M' (nI M') u → rr_B T (rr_kp M') u → post u) : wpX_moveTo post u (nI M') := by
  obtain ⟨u_ms, u_ws, u_rs, u_an, u_ns, u_nv, u_nt, u_mg, u_ll, u_a1, u_a2, u_a3, u_a4, u_a5, u_a6, u_a7, u_a8, u_a9, u_a10, u_a11, u_a12⟩ := u
  have hms' : u_ms = nI M := hms
  subst hms'
  refine pk_loop (fun n k (u : St2) => wX_moveTo_7 post (nI M') (nI M) n (nI k) u.1 u.2.1 u.2.2.1 u.2.2.2.1 u.2.2.2.2.1 u.2.2.2.2.2.1 u.2.2.2.2.2.2.1 u.2.2.2.2.2.2.2.1 u.2.2.2.2.2.2.2.2.1 u.2.2.2.2.2.2.2.2.2.1 u.2.2.2.2.2.2.2.2.2.2.1 u.2.2.2.2.2.2.2.2.2.2.2.1 u.2.2.2.2.2.2.2.2.2.2.2.2.1 u.2.2.2.2.2.2.2.2.2.2.2.2.2.1 u.2.2.2.2.2.2.2.2.2.2.2.2.2.2.1 u.2.2.2.2.2.2.2.2.2.2.2.2.2.2.2.1 u.2.2.2.2.2.2.2.2.2.2.2.2.2.2.2.2.1 u.2.2.2.2.2.2.2.2.2.2.2.2.2.2.2.2.2.1 u.2.2.2.2.2.2.2.2.2.2.2.2.2.2.2.2.2.2.1 u.2.2.2.2.2.2.2.2.2.2.2.2.2.2.2.2.2.2.2.1 u.2.2.2.2.2.2.2.2.2.2.2.2.2.2.2.2.2.2.2.2) (fun k u => rr_B T (fun a j => H a j ∨ (j < k ∧ rr_kp M' a j)) u ∧ (k ≠ 0 → rr_G M' (nI M') u)) 16 0 (nI M, u_ws, u_rs, u_an, u_ns, u_nv, u_nt, u_mg, u_ll, u_a1, u_a2, u_a3, u_a4, u_a5, u_a6, u_a7, u_a8, u_a9, u_a10, u_a11, u_a12) (by omega)
    ⟨⟨hB.1, rr_C_sub hB.2 (fun a _ j _ z => Or.inl (z.elim (fun y => y) (fun y => absurd y.1 (by omega))))⟩, fun z => absurd rfl z⟩ ?_ ?_
  · intro n u ⟨hB, hG⟩
    refine br_t (Int32.le_refl _) (rr_dropOthers (u := (u.1, u.2.1, u.2.2.1, u.2.2.2.1, u.2.2.2.2.1, u.2.2.2.2.2.1, u.2.2.2.2.2.2.1, u.2.2.2.2.2.2.2.1, u.2.2.2.2.2.2.2.2.1, u.2.2.2.2.2.2.2.2.2.1, u.2.2.2.2.2.2.2.2.2.2.1, u.2.2.2.2.2.2.2.2.2.2.2.1, u.2.2.2.2.2.2.2.2.2.2.2.2.1, u.2.2.2.2.2.2.2.2.2.2.2.2.2.1, u.2.2.2.2.2.2.2.2.2.2.2.2.2.2.1, u.2.2.2.2.2.2.2.2.2.2.2.2.2.2.2.1, u.2.2.2.2.2.2.2.2.2.2.2.2.2.2.2.2.1, u.2.2.2.2.2.2.2.2.2.2.2.2.2.2.2.2.2.1, u.2.2.2.2.2.2.2.2.2.2.2.2.2.2.2.2.2.2.1, u.2.2.2.2.2.2.2.2.2.2.2.2.2.2.2.2.2.2.2.1, u.2.2.2.2.2.2.2.2.2.2.2.2.2.2.2.2.2.2.2.2)) hS' (hG (by omega)) ⟨hB.1, rr_C_sub hB.2 (fun a _ j hj z => Or.inl (Or.inr ⟨hj, z⟩))⟩ (fun u' g1 g2 => ?_))
    obtain ⟨v_ms, v_ws, v_rs, v_an, v_ns, v_nv, v_nt, v_mg, v_ll, v_a1, v_a2, v_a3, v_a4, v_a5, v_a6, v_a7, v_a8, v_a9, v_a10, v_a11, v_a12⟩ := u'
    exact h (v_ms, v_ws, v_rs, v_an, v_ns, v_nv, v_nt, v_mg, v_ll, v_a1, v_a2, v_a3, v_a4, v_a5, v_a6, v_a7, v_a8, v_a9, v_a10, v_a11, v_a12) g1 g2
  · intro n k u hk ⟨hB, _⟩ hw
    have E := rr_F6 M hS k hk
    have E' := rr_F6 M' hS' k hk
    refine br_f (nI_ge (b := 16) hk (by decide)) (rr_layRing (u := (nI M, nI M, u.2.2.1, u.2.2.2.1, u.2.2.2.2.1, u.2.2.2.2.2.1, u.2.2.2.2.2.2.1, u.2.2.2.2.2.2.2.1, u.2.2.2.2.2.2.2.2.1, u.2.2.2.2.2.2.2.2.2.1, u.2.2.2.2.2.2.2.2.2.2.1, u.2.2.2.2.2.2.2.2.2.2.2.1, u.2.2.2.2.2.2.2.2.2.2.2.2.1, u.2.2.2.2.2.2.2.2.2.2.2.2.2.1, u.2.2.2.2.2.2.2.2.2.2.2.2.2.2.1, u.2.2.2.2.2.2.2.2.2.2.2.2.2.2.2.1, u.2.2.2.2.2.2.2.2.2.2.2.2.2.2.2.2.1, u.2.2.2.2.2.2.2.2.2.2.2.2.2.2.2.2.2.1, u.2.2.2.2.2.2.2.2.2.2.2.2.2.2.2.2.2.2.1, u.2.2.2.2.2.2.2.2.2.2.2.2.2.2.2.2.2.2.2.1, u.2.2.2.2.2.2.2.2.2.2.2.2.2.2.2.2.2.2.2.2)) hS rfl (fun b1 b2 hM => rr_leader (fun c _ => ?_)))
    refine rr_readNewest (u := (nI M, nI M, nI (rr_ring M).length, u.2.2.2.1, u.2.2.2.2.1, u.2.2.2.2.2.1, u.2.2.2.2.2.2.1, u.2.2.2.2.2.2.2.1, u.2.2.2.2.2.2.2.2.1, b1, b2, u.2.2.2.2.2.2.2.2.2.2.2.1, u.2.2.2.2.2.2.2.2.2.2.2.2.1, u.2.2.2.2.2.2.2.2.2.2.2.2.2.1, u.2.2.2.2.2.2.2.2.2.2.2.2.2.2.1, u.2.2.2.2.2.2.2.2.2.2.2.2.2.2.2.1, u.2.2.2.2.2.2.2.2.2.2.2.2.2.2.2.2.1, u.2.2.2.2.2.2.2.2.2.2.2.2.2.2.2.2.2.1, u.2.2.2.2.2.2.2.2.2.2.2.2.2.2.2.2.2.2.1, u.2.2.2.2.2.2.2.2.2.2.2.2.2.2.2.2.2.2.2.1, u.2.2.2.2.2.2.2.2.2.2.2.2.2.2.2.2.2.2.2.2)) (w := nI M) (M := M) (T := T) (H := fun a j => H a j ∨ (j < k ∧ rr_kp M' a j)) hS (fun q hq z => Nat.le_trans (by decide) (E q hq z)) hk ⟨rfl, rfl, rfl, hM⟩ hB (fun i hi j hj hij => (h2 k hk i hi j hj hij).elim (fun y => Or.inl (Or.inl y)) (fun y => Or.inr (Or.inl y))) (fun v hR hs => ?_)
    obtain ⟨v_ms, v_ws, v_rs, v_an, v_ns, v_nv, v_nt, v_mg, v_ll, v_a1, v_a2, v_a3, v_a4, v_a5, v_a6, v_a7, v_a8, v_a9, v_a10, v_a11, v_a12⟩ := v
    obtain ⟨_, hB2, _, hn⟩ := hR
    refine rr_layRing (u := (nI M', nI M', v_rs, v_an, v_ns, v_nv, v_nt, v_mg, v_ll, v_a1, v_a2, v_a3, v_a4, v_a5, v_a6, v_a7, v_a8, v_a9, v_a10, v_a11, v_a12)) hS' rfl (fun d1 d2 hM' => ?_)
    have hG' : ∀ b9, rr_G M' (nI M') (nI M', nI M', nI (rr_ring M').length, v_an, v_ns, v_nv, v_nt, v_mg, v_ll, d1, d2, v_a3, v_a4, v_a5, v_a6, v_a7, v_a8, b9, v_a10, v_a11, v_a12) := fun _ => ⟨rfl, rfl, rfl, hM'⟩
    refine rr_findKeepers (u := (nI M', nI M', nI (rr_ring M').length, v_an, v_ns, v_nv, v_nt, v_mg, v_ll, d1, d2, v_a3, v_a4, v_a5, v_a6, v_a7, v_a8, v_a9, v_a10, v_a11, v_a12)) hS' (hG' v_a9) hk (fun b9 h9 => br_c (fun z => ?_) (fun z => rr_leader (fun c' hc' => ?_)))
    · refine nm_r (nI_1 k) (hw (nI M', nI M', nI (rr_ring M').length, v_an, v_ns, v_nv, v_nt, v_mg, v_ll, d1, d2, v_a3, v_a4, v_a5, v_a6, v_a7, v_a8, b9, v_a10, v_a11, v_a12) ⟨⟨hB2.1, rr_C_sub hB2.2 (fun a ha j hj y => ?_)⟩, fun _ => hG' b9⟩)
      rcases y with y | ⟨y1, y2⟩
      · exact Or.inl (Or.inl y)
      · by_cases e : j = k
        · right
          subst e
          have o := hB2.2.1 a ha j hj
          have z' : v_ns ≤ 0 := z
          have hs' : v_ns = (T j).1 := hs
          rw [hs'] at z'
          exact Int32.le_antisymm o.2.1 (Int32.le_trans z' o.1)
        · exact Or.inl (Or.inr ⟨by omega, y2⟩)
    · refine rr_writeNewest (u := (nI M', nI M', nI (rr_ring M').length, v_an, v_ns, v_nv, v_nt, v_mg, v_ll, d1, d2, v_a3, v_a4, v_a5, v_a6, v_a7, v_a8, b9, v_a10, v_a11, v_a12)) (w := nI M') (M := M') (e := 3) (T := T) (H := fun a j => H a j ∨ (j < k ∧ rr_kp M' a j)) hS' E' (by omega) hk hc' ⟨hG' b9, hB2, h9, hn⟩ hs (fun x q g1 g2 hq hp hA => ?_)
      obtain ⟨x_ms, x_ws, x_rs, x_an, x_ns, x_nv, x_nt, x_mg, x_ll, x_a1, x_a2, x_a3, x_a4, x_a5, x_a6, x_a7, x_a8, x_a9, x_a10, x_a11, x_a12⟩ := x
      refine nm_r (nI_1 k) (hw (x_ms, x_ws, x_rs, x_an, x_ns, x_nv, x_nt, x_mg, x_ll, x_a1, x_a2, x_a3, x_a4, x_a5, x_a6, x_a7, x_a8, x_a9, x_a10, x_a11, x_a12) ⟨⟨g2.1, rr_C_sub g2.2 (fun a ha j hj y => ?_)⟩, fun _ => g1⟩)
      rcases y with y | ⟨y1, y2⟩
      · exact Or.inl (Or.inl y)
      · by_cases e : j = k
        · right
          subst e
          obtain ⟨i, hi, ei⟩ := y2
          rw [← ei]
          exact hA i hi (rr_P2 q hq hp i hi)
        · exact Or.inl (Or.inr ⟨by omega, y2⟩)
end
section
/-- the picture: how often each key was changed, its number, whether it was taken away -/
def rr_P (n : Nat → Nat) (v b : Nat → Int32) (T : Nat → Int32 × Int32 × Int32) : Prop :=
  ∀ k, k < 16 → ∃ c, c < 8 ∧ (n k = 0 → c = 0) ∧ n k ≤ 100 ∧ T k = (nI (8 * n k + c), v k, b k) ∧ (b k = 0 ∨ b k = 1)
def rr_L (M : Nat) (w : Int32) (n : Nat → Nat) (v b : Nat → Int32) (u : St2) : Prop :=
  ∃ T H, rr_P n v b T ∧ rr_G M w u ∧ rr_B T H u ∧ ∀ k, k < 16 → rr_two M k H
/-- enough machines work for every key -/
def rr_W (M : Nat) (w : Int32) : Prop := M ∈ rr_sets ∧ ∀ k, k < 16 → rr_en w M k 2
def rr_num (n : Nat → Nat) (v b : Nat → Int32) (k : Nat) : Int32 := if n k = 0 ∨ ¬ b k = 0 then (-200000) else v k
def rr_pn (n : Nat → Nat) (k x : Nat) : Nat → Nat := fun j => if j = k then x else n j
theorem rr_pn_s (n : Nat → Nat) (k x : Nat) : rr_pn n k x k = x := if_pos rfl
theorem rr_pn_n (n : Nat → Nat) {k x j : Nat} (h : j ≠ k) : rr_pn n k x j = n j := if_neg h
theorem rr_rnum {post : Int32 → Prop} {u : St2} {n : Nat → Nat} {v b : Nat → Int32} {T : Nat → Int32 × Int32 × Int32} {k : Nat} (hP : rr_P n v b T) (hk : k < 16) (ho : rr_o (T k) u.2.2.2.2.1 u.2.2.2.2.2.1 u.2.2.2.2.2.2.1) (hs : u.2.2.2.2.1 = (T k).1) (h : post (rr_num n v b k)) : wpX_readNumber post u := by
  obtain ⟨c, hc, h0, hn, hT, hb⟩ := hP k hk
  have hs' : u.2.2.2.2.1 = nI (8 * n k + c) := by rw [hs, hT]
  have hpos : ¬ u.2.2.2.2.1 = 0 → n k ≠ 0 ∧ u.2.2.2.2.2.1 = v k ∧ u.2.2.2.2.2.2.1 = b k := by
    intro z
    have hn0 : n k ≠ 0 := by
      intro e
      apply z
      rw [hs', e, h0 e]
      rfl
    have hlt : 0 < u.2.2.2.2.1 := by
      rw [hs']
      exact nI_lt (a := 0) (by omega) (by omega)
    have y := ho.2.2.1 hs hlt
    rw [hT] at y
    exact ⟨hn0, y.1, y.2⟩
  refine rr_readNumber (fun z => ?_) (fun z z2 => ?_) (fun z z2 => ?_)
  · have e : n k = 0 := by
      rw [hs'] at z
      rcases Nat.eq_zero_or_pos (n k) with e | e
      · exact e
      · exact absurd z (nI_ne0 (by omega) (by omega))
    unfold rr_num at h
    rw [if_pos (Or.inl e)] at h
    exact h
  · obtain ⟨y1, y2, y3⟩ := hpos z
    unfold rr_num at h
    rw [if_neg (by rw [← y3, z2]; simp [y1])] at h
    rw [y2]
    exact h
  · obtain ⟨y1, y2, y3⟩ := hpos z
    unfold rr_num at h
    rw [if_pos (Or.inr (by rw [← y3]; exact z2))] at h
    exact h
theorem rr_stamp {n c0 c : Nat} (hn : n ≤ 100) (hc0 : c0 < 8) : ((nI (8 * n + c0) / 8) + 1) * 8 + nI c = nI (8 * (n + 1) + c) := by
  rw [show (8 : Int32) = nI 8 from rfl, pk_div (by omega) (by omega) (by omega), nI_1, pk_mul, nI_add]
  congr 1
  omega
/-- a change of the key k by the machine c: the picture follows -/
theorem rr_change {post : St2 → Prop} {u : St2} {M k c : Nat} {w x a : Int32} {n : Nat → Nat} {v b : Nat → Int32} {T : Nat → Int32 × Int32 × Int32} {H : Nat → Nat → Prop} (hW : rr_W M w) (hP : rr_P n v b T) (h2 : ∀ k, k < 16 → rr_two M k H) (hk : k < 16) (hc : c < 6) (ha : a = 0 ∨ a = 1) (hn : n k < 100)
    (hR : rr_R M w T H k u) (hs : u.2.2.2.2.1 = (T k).1) (h : ∀ u, rr_L M w (rr_pn n k (n k + 1)) (upd v k x) (upd b k a) u → post u) : wpX_change post u (nI c) (nI k) x a := by
  obtain ⟨u_ms, u_ws, u_rs, u_an, u_ns, u_nv, u_nt, u_mg, u_ll, u_a1, u_a2, u_a3, u_a4, u_a5, u_a6, u_a7, u_a8, u_a9, u_a10, u_a11, u_a12⟩ := u
  obtain ⟨hG, ⟨hl, hC⟩, hK, ho⟩ := hR
  obtain ⟨c0, hc0, h0, hn0, hT, hb⟩ := hP k hk
  have hs' : u_ns = nI (8 * n k + c0) := by
    have z : u_ns = (T k).1 := hs
    rw [z, hT]
  subst hs'
  have hlt : (T k).1 < nI (8 * (n k + 1) + c) := by
    rw [hT]
    exact nI_lt (by omega) (by omega)
  have hC' := rr_C_new (T' := fun j => if j = k then (nI (8 * (n k + 1) + c), x, a) else T j) hC (k := k) (by rw [if_pos rfl]; exact hlt) (fun j hj => if_neg hj)
  refine ⟨by decide, nm_r (rr_stamp hn0 hc0) ⟨rr_narrow ha, rr_fits ha, ?_⟩⟩
  have ho' : rr_o ((fun j => if j = k then (nI (8 * (n k + 1) + c), x, a) else T j) k) (nI (8 * (n k + 1) + c)) x a := by
    show rr_o (if k = k then (nI (8 * (n k + 1) + c), x, a) else T k) _ _ _
    rw [if_pos rfl]
    exact ⟨nI_pos' (by omega), Int32.le_refl _, fun _ _ => ⟨rfl, rfl⟩, ha⟩
  refine rr_writeNewest (u := (u_ms, u_ws, u_rs, u_an, nI (8 * (n k + 1) + c), x, a, u_mg, u_ll, u_a1, u_a2, u_a3, u_a4, u_a5, u_a6, u_a7, u_a8, u_a9, u_a10, u_a11, u_a12)) (M := M) (w := w) (e := 2) (T := fun j => if j = k then (nI (8 * (n k + 1) + c), x, a) else T j) (H := fun m j => j ≠ k ∧ H m j) hW.1 (hW.2 k hk) (by omega) hk hc ⟨hG, ⟨hl, hC'⟩, hK, ho'⟩ (by show _ = (if k = k then (nI (8 * (n k + 1) + c), x, a) else T k).1; rw [if_pos rfl]) (fun y q g1 g2 hq hp hA => ?_)
  obtain ⟨y_ms, y_ws, y_rs, y_an, y_ns, y_nv, y_nt, y_mg, y_ll, y_a1, y_a2, y_a3, y_a4, y_a5, y_a6, y_a7, y_a8, y_a9, y_a10, y_a11, y_a12⟩ := y
  refine h (y_ms, y_ws, y_rs, y_an, y_ns, y_nv, y_nt, y_mg, y_ll, y_a1, y_a2, y_a3, y_a4, y_a5, y_a6, y_a7, y_a8, y_a9, y_a10, y_a11, y_a12) ⟨fun j => if j = k then (nI (8 * (n k + 1) + c), x, a) else T j, fun m j => (j ≠ k ∧ H m j) ∨ (j = k ∧ ∃ i, i < 3 ∧ q.testBit i = true ∧ rr_kt M k i = m), ?_, g1, ⟨g2.1, rr_C_sub g2.2 (fun m _ j _ z => ?_)⟩, fun j hj => ?_⟩
  · intro j hj
    by_cases e : j = k
    · subst e
      refine ⟨c, by omega, fun z => absurd z (by rw [rr_pn_s]; omega), ?_, ?_, ?_⟩
      · rw [rr_pn_s]; omega
      · show (if j = j then (nI (8 * (n j + 1) + c), x, a) else T j) = _
        rw [if_pos rfl, rr_pn_s, pk_us, pk_us]
      · rw [pk_us]; exact ha
    · have y := hP j hj
      obtain ⟨c1, d1, d2, d3, d4, d5⟩ := y
      refine ⟨c1, d1, ?_, ?_, ?_, ?_⟩
      · rw [rr_pn_n n e]; exact d2
      · rw [rr_pn_n n e]; exact d3
      · show (if j = k then (nI (8 * (n k + 1) + c), x, a) else T j) = _
        rw [if_neg e, rr_pn_n n e, pk_un e, pk_un e]; exact d4
      · rw [pk_un e]; exact d5
  · rcases z with z | ⟨z1, i, hi, z2, z3⟩
    · exact Or.inl z
    · right
      rw [z1, ← z3]
      exact hA i hi z2
  · intro i hi i' hi' hii
    by_cases e : j = k
    · subst e
      rcases rr_P1 q hq hp i hi i' hi' hii with z | z
      · exact Or.inl (Or.inr ⟨rfl, i, hi, z, rfl⟩)
      · exact Or.inr (Or.inr ⟨rfl, i', hi', z, rfl⟩)
    · rcases h2 j hj i hi i' hi' hii with z | z
      · exact Or.inl (Or.inl ⟨e, z⟩)
      · exact Or.inr (Or.inl ⟨e, z⟩)
theorem rr_working {u : St2} {M m : Nat} {w : Int32} {n : Nat → Nat} {v b : Nat → Int32} (hL : rr_L M w n v b u) : u.2.1 = w := by
  obtain ⟨T, H, hP, hG, hB, h2⟩ := hL
  exact hG.2.1
theorem rr_put {post : Int32 → St2 → Prop} {u : St2} {M k c : Nat} {w x : Int32} {n : Nat → Nat} {v b : Nat → Int32} (hW : rr_W M w) (hL : rr_L M w n v b u) (hc : c < 6) (hk : k < 16) (hx1 : ¬ x < (-9999)) (hx2 : ¬ 9999 < x) (hwk : rr_bit w c = true) (hn : n k < 100)
    (h : ∀ u, rr_L M w (rr_pn n k (n k + 1)) (upd v k x) (upd b k 0) u → post (rr_num n v b k) u) : wpX_put post u (nI c) (nI k) x := by
  obtain ⟨T, H, hP, hG, hB, h2⟩ := hL
  obtain ⟨u_ms, u_ws, u_rs, u_an, u_ns, u_nv, u_nt, u_mg, u_ll, u_a1, u_a2, u_a3, u_a4, u_a5, u_a6, u_a7, u_a8, u_a9, u_a10, u_a11, u_a12⟩ := u
  unfold wpX_put
  have hws : u_ws = w := hG.2.1
  refine rr_isMachine hc (br_f (by decide) (rr_isKey hk (br_f (by decide) (rr_isNumber hx1 hx2 (br_f (by decide) (rr_isWorking (u := (u_ms, u_ws, u_rs, u_an, u_ns, u_nv, u_nt, u_mg, u_ll, u_a1, u_a2, u_a3, u_a4, u_a5, u_a6, u_a7, u_a8, u_a9, u_a10, u_a11, u_a12)) hc (fun _ => br_f (by decide) ?_) (fun z => ?_)))))))
  · refine rr_readNewest (u := (u_ms, u_ws, u_rs, u_an, u_ns, u_nv, u_nt, u_mg, u_ll, u_a1, u_a2, u_a3, u_a4, u_a5, u_a6, u_a7, u_a8, u_a9, u_a10, u_a11, u_a12)) hW.1 (hW.2 k hk) hk hG hB (h2 k hk) (fun y hR hs => ?_)
    obtain ⟨y_ms, y_ws, y_rs, y_an, y_ns, y_nv, y_nt, y_mg, y_ll, y_a1, y_a2, y_a3, y_a4, y_a5, y_a6, y_a7, y_a8, y_a9, y_a10, y_a11, y_a12⟩ := y
    refine rr_rnum (u := (y_ms, y_ws, y_rs, y_an, y_ns, y_nv, y_nt, y_mg, y_ll, y_a1, y_a2, y_a3, y_a4, y_a5, y_a6, y_a7, y_a8, y_a9, y_a10, y_a11, y_a12)) hP hk hR.2.2.2 hs ?_
    refine rr_change (u := (y_ms, y_ws, y_rs, y_an, y_ns, y_nv, y_nt, y_mg, y_ll, y_a1, y_a2, y_a3, y_a4, y_a5, y_a6, y_a7, y_a8, y_a9, y_a10, y_a11, y_a12)) hW hP h2 hk hc (Or.inl rfl) hn hR hs (fun x hx => ?_)
    obtain ⟨x_ms, x_ws, x_rs, x_an, x_ns, x_nv, x_nt, x_mg, x_ll, x_a1, x_a2, x_a3, x_a4, x_a5, x_a6, x_a7, x_a8, x_a9, x_a10, x_a11, x_a12⟩ := x
    exact h _ hx
  · have z' : rr_bit u_ws c = false := z
    rw [hws, hwk] at z'
    exact absurd z' (by decide)
theorem rr_remove {post : Int32 → St2 → Prop} {u : St2} {M k c : Nat} {w : Int32} {n : Nat → Nat} {v b : Nat → Int32} (hW : rr_W M w) (hL : rr_L M w n v b u) (hc : c < 6) (hk : k < 16) (hwk : rr_bit w c = true) (hn : n k < 100)
    (h : ∀ u, rr_L M w (rr_pn n k (n k + 1)) (upd v k 0) (upd b k 1) u → post (rr_num n v b k) u) : wpX_remove post u (nI c) (nI k) := by
  obtain ⟨T, H, hP, hG, hB, h2⟩ := hL
  obtain ⟨u_ms, u_ws, u_rs, u_an, u_ns, u_nv, u_nt, u_mg, u_ll, u_a1, u_a2, u_a3, u_a4, u_a5, u_a6, u_a7, u_a8, u_a9, u_a10, u_a11, u_a12⟩ := u
  unfold wpX_remove
  have hws : u_ws = w := hG.2.1
  refine rr_isMachine hc (br_f (by decide) (rr_isKey hk (br_f (by decide) (rr_isWorking (u := (u_ms, u_ws, u_rs, u_an, u_ns, u_nv, u_nt, u_mg, u_ll, u_a1, u_a2, u_a3, u_a4, u_a5, u_a6, u_a7, u_a8, u_a9, u_a10, u_a11, u_a12)) hc (fun _ => br_f (by decide) ?_) (fun z => ?_)))))
  · refine rr_readNewest (u := (u_ms, u_ws, u_rs, u_an, u_ns, u_nv, u_nt, u_mg, u_ll, u_a1, u_a2, u_a3, u_a4, u_a5, u_a6, u_a7, u_a8, u_a9, u_a10, u_a11, u_a12)) hW.1 (hW.2 k hk) hk hG hB (h2 k hk) (fun y hR hs => ?_)
    obtain ⟨y_ms, y_ws, y_rs, y_an, y_ns, y_nv, y_nt, y_mg, y_ll, y_a1, y_a2, y_a3, y_a4, y_a5, y_a6, y_a7, y_a8, y_a9, y_a10, y_a11, y_a12⟩ := y
    refine rr_rnum (u := (y_ms, y_ws, y_rs, y_an, y_ns, y_nv, y_nt, y_mg, y_ll, y_a1, y_a2, y_a3, y_a4, y_a5, y_a6, y_a7, y_a8, y_a9, y_a10, y_a11, y_a12)) hP hk hR.2.2.2 hs ?_
    refine rr_change (u := (y_ms, y_ws, y_rs, y_an, y_ns, y_nv, y_nt, y_mg, y_ll, y_a1, y_a2, y_a3, y_a4, y_a5, y_a6, y_a7, y_a8, y_a9, y_a10, y_a11, y_a12)) hW hP h2 hk hc (Or.inr rfl) hn hR hs (fun x hx => ?_)
    obtain ⟨x_ms, x_ws, x_rs, x_an, x_ns, x_nv, x_nt, x_mg, x_ll, x_a1, x_a2, x_a3, x_a4, x_a5, x_a6, x_a7, x_a8, x_a9, x_a10, x_a11, x_a12⟩ := x
    exact h _ hx
  · have z' : rr_bit u_ws c = false := z
    rw [hws, hwk] at z'
    exact absurd z' (by decide)
/-- add to a key that has no number -/
theorem rr_add {post : Int32 → St2 → Prop} {u : St2} {M k c : Nat} {w x : Int32} {n : Nat → Nat} {v b : Nat → Int32} (hW : rr_W M w) (hL : rr_L M w n v b u) (hc : c < 6) (hk : k < 16) (hx1 : ¬ x < (-9999)) (hx2 : ¬ 9999 < x) (hwk : rr_bit w c = true) (hn : n k < 100) (h0 : rr_num n v b k = (-200000))
    (h : ∀ u, rr_L M w (rr_pn n k (n k + 1)) (upd v k x) (upd b k 0) u → post x u) : wpX_add post u (nI c) (nI k) x := by
  obtain ⟨T, H, hP, hG, hB, h2⟩ := hL
  obtain ⟨u_ms, u_ws, u_rs, u_an, u_ns, u_nv, u_nt, u_mg, u_ll, u_a1, u_a2, u_a3, u_a4, u_a5, u_a6, u_a7, u_a8, u_a9, u_a10, u_a11, u_a12⟩ := u
  unfold wpX_add
  have hws : u_ws = w := hG.2.1
  refine rr_isMachine hc (br_f (by decide) (rr_isKey hk (br_f (by decide) (rr_isNumber hx1 hx2 (br_f (by decide) (rr_isWorking (u := (u_ms, u_ws, u_rs, u_an, u_ns, u_nv, u_nt, u_mg, u_ll, u_a1, u_a2, u_a3, u_a4, u_a5, u_a6, u_a7, u_a8, u_a9, u_a10, u_a11, u_a12)) hc (fun _ => br_f (by decide) ?_) (fun z => ?_)))))))
  · refine rr_readNewest (u := (u_ms, u_ws, u_rs, u_an, u_ns, u_nv, u_nt, u_mg, u_ll, u_a1, u_a2, u_a3, u_a4, u_a5, u_a6, u_a7, u_a8, u_a9, u_a10, u_a11, u_a12)) hW.1 (hW.2 k hk) hk hG hB (h2 k hk) (fun y hR hs => ?_)
    obtain ⟨y_ms, y_ws, y_rs, y_an, y_ns, y_nv, y_nt, y_mg, y_ll, y_a1, y_a2, y_a3, y_a4, y_a5, y_a6, y_a7, y_a8, y_a9, y_a10, y_a11, y_a12⟩ := y
    refine rr_rnum (u := (y_ms, y_ws, y_rs, y_an, y_ns, y_nv, y_nt, y_mg, y_ll, y_a1, y_a2, y_a3, y_a4, y_a5, y_a6, y_a7, y_a8, y_a9, y_a10, y_a11, y_a12)) hP hk hR.2.2.2 hs (br_t h0 ?_)
    refine rr_isNumber hx1 hx2 (br_f (by decide) ?_)
    refine rr_change (u := (y_ms, y_ws, y_rs, y_an, y_ns, y_nv, y_nt, y_mg, y_ll, y_a1, y_a2, y_a3, y_a4, y_a5, y_a6, y_a7, y_a8, y_a9, y_a10, y_a11, y_a12)) hW hP h2 hk hc (Or.inl rfl) hn hR hs (fun x hx => ?_)
    obtain ⟨x_ms, x_ws, x_rs, x_an, x_ns, x_nv, x_nt, x_mg, x_ll, x_a1, x_a2, x_a3, x_a4, x_a5, x_a6, x_a7, x_a8, x_a9, x_a10, x_a11, x_a12⟩ := x
    exact h _ hx
  · have z' : rr_bit u_ws c = false := z
    rw [hws, hwk] at z'
    exact absurd z' (by decide)
theorem rr_get {post : Int32 → St2 → Prop} {u : St2} {M k c : Nat} {w : Int32} {n : Nat → Nat} {v b : Nat → Int32} (hW : rr_W M w) (hL : rr_L M w n v b u) (hc : c < 6) (hk : k < 16) (hwk : rr_bit w c = true)
    (h : ∀ u, rr_L M w n v b u → post (rr_num n v b k) u) : wpX_get post u (nI c) (nI k) := by
  obtain ⟨T, H, hP, hG, hB, h2⟩ := hL
  obtain ⟨u_ms, u_ws, u_rs, u_an, u_ns, u_nv, u_nt, u_mg, u_ll, u_a1, u_a2, u_a3, u_a4, u_a5, u_a6, u_a7, u_a8, u_a9, u_a10, u_a11, u_a12⟩ := u
  unfold wpX_get
  have hws : u_ws = w := hG.2.1
  refine rr_isMachine hc (br_f (by decide) (rr_isKey hk (br_f (by decide) (rr_isWorking (u := (u_ms, u_ws, u_rs, u_an, u_ns, u_nv, u_nt, u_mg, u_ll, u_a1, u_a2, u_a3, u_a4, u_a5, u_a6, u_a7, u_a8, u_a9, u_a10, u_a11, u_a12)) hc (fun _ => br_f (by decide) ?_) (fun z => ?_)))))
  · refine rr_readNewest (u := (u_ms, u_ws, u_rs, u_an, u_ns, u_nv, u_nt, u_mg, u_ll, u_a1, u_a2, u_a3, u_a4, u_a5, u_a6, u_a7, u_a8, u_a9, u_a10, u_a11, u_a12)) hW.1 (hW.2 k hk) hk hG hB (h2 k hk) (fun y hR hs => ?_)
    obtain ⟨y_ms, y_ws, y_rs, y_an, y_ns, y_nv, y_nt, y_mg, y_ll, y_a1, y_a2, y_a3, y_a4, y_a5, y_a6, y_a7, y_a8, y_a9, y_a10, y_a11, y_a12⟩ := y
    exact rr_rnum (u := (y_ms, y_ws, y_rs, y_an, y_ns, y_nv, y_nt, y_mg, y_ll, y_a1, y_a2, y_a3, y_a4, y_a5, y_a6, y_a7, y_a8, y_a9, y_a10, y_a11, y_a12)) hP hk hR.2.2.2 hs (h (y_ms, y_ws, y_rs, y_an, y_ns, y_nv, y_nt, y_mg, y_ll, y_a1, y_a2, y_a3, y_a4, y_a5, y_a6, y_a7, y_a8, y_a9, y_a10, y_a11, y_a12) ⟨T, H, hP, hR.1, hR.2.1, h2⟩)
  · have z' : rr_bit u_ws c = false := z
    rw [hws, hwk] at z'
    exact absurd z' (by decide)
/-- a machine that doesn't work refuses -/
theorem rr_getR {post : Int32 → St2 → Prop} {u : St2} {k c : Nat} (hc : c < 6) (hk : k < 16) (hwk : rr_bit u.2.1 c = false) (h : post (-300000) u) : wpX_get post u (nI c) (nI k) := by
  obtain ⟨u_ms, u_ws, u_rs, u_an, u_ns, u_nv, u_nt, u_mg, u_ll, u_a1, u_a2, u_a3, u_a4, u_a5, u_a6, u_a7, u_a8, u_a9, u_a10, u_a11, u_a12⟩ := u
  unfold wpX_get
  refine rr_isMachine hc (br_f (by decide) (rr_isKey hk (br_f (by decide) (rr_isWorking (u := (u_ms, u_ws, u_rs, u_an, u_ns, u_nv, u_nt, u_mg, u_ll, u_a1, u_a2, u_a3, u_a4, u_a5, u_a6, u_a7, u_a8, u_a9, u_a10, u_a11, u_a12)) hc (fun z => ?_) (fun _ => br_t rfl h)))))
  have z' : rr_bit u_ws c = true := z
  have hwk' : rr_bit u_ws c = false := hwk
  rw [hwk'] at z'
  exact absurd z' (by decide)
theorem rr_putR {post : Int32 → St2 → Prop} {u : St2} {k c : Nat} {x : Int32} (hc : c < 6) (hk : k < 16) (hx1 : ¬ x < (-9999)) (hx2 : ¬ 9999 < x) (hwk : rr_bit u.2.1 c = false) (h : post (-300000) u) : wpX_put post u (nI c) (nI k) x := by
  obtain ⟨u_ms, u_ws, u_rs, u_an, u_ns, u_nv, u_nt, u_mg, u_ll, u_a1, u_a2, u_a3, u_a4, u_a5, u_a6, u_a7, u_a8, u_a9, u_a10, u_a11, u_a12⟩ := u
  unfold wpX_put
  refine rr_isMachine hc (br_f (by decide) (rr_isKey hk (br_f (by decide) (rr_isNumber hx1 hx2 (br_f (by decide) (rr_isWorking (u := (u_ms, u_ws, u_rs, u_an, u_ns, u_nv, u_nt, u_mg, u_ll, u_a1, u_a2, u_a3, u_a4, u_a5, u_a6, u_a7, u_a8, u_a9, u_a10, u_a11, u_a12)) hc (fun z => ?_) (fun _ => br_t rfl h)))))))
  have z' : rr_bit u_ws c = true := z
  have hwk' : rr_bit u_ws c = false := hwk
  rw [hwk'] at z'
  exact absurd z' (by decide)
theorem rr_changes {post : Int32 → St2 → Prop} {u : St2} {M k : Nat} {w : Int32} {n : Nat → Nat} {v b : Nat → Int32} (hW : rr_W M w) (hL : rr_L M w n v b u) (hk : k < 16)
    (h : ∀ u, rr_L M w n v b u → post (nI (n k)) u) : wpX_changes post u (nI k) := by
  obtain ⟨T, H, hP, hG, hB, h2⟩ := hL
  obtain ⟨u_ms, u_ws, u_rs, u_an, u_ns, u_nv, u_nt, u_mg, u_ll, u_a1, u_a2, u_a3, u_a4, u_a5, u_a6, u_a7, u_a8, u_a9, u_a10, u_a11, u_a12⟩ := u
  unfold wpX_changes
  refine rr_isKey hk (br_f (by decide) (rr_leader (u := (u_ms, u_ws, u_rs, u_an, u_ns, u_nv, u_nt, u_mg, u_ll, u_a1, u_a2, u_a3, u_a4, u_a5, u_a6, u_a7, u_a8, u_a9, u_a10, u_a11, u_a12)) (fun c _ => ?_)))
  refine rr_readNewest (u := (u_ms, u_ws, u_rs, u_an, u_ns, u_nv, u_nt, u_mg, u_ll, u_a1, u_a2, u_a3, u_a4, u_a5, u_a6, u_a7, u_a8, u_a9, u_a10, u_a11, u_a12)) hW.1 (hW.2 k hk) hk hG hB (h2 k hk) (fun y hR hs => ?_)
  obtain ⟨y_ms, y_ws, y_rs, y_an, y_ns, y_nv, y_nt, y_mg, y_ll, y_a1, y_a2, y_a3, y_a4, y_a5, y_a6, y_a7, y_a8, y_a9, y_a10, y_a11, y_a12⟩ := y
  obtain ⟨c0, hc0, h0, hn0, hT, hb⟩ := hP k hk
  have hs' : y_ns = nI (8 * n k + c0) := by
    have z : y_ns = (T k).1 := hs
    rw [z, hT]
  subst hs'
  refine ⟨by decide, ?_⟩
  have e : nI (8 * n k + c0) / 8 = nI (n k) := by
    rw [show (8 : Int32) = nI 8 from rfl, pk_div (by omega) (by omega) (by omega)]
    congr 1
    omega
  rw [e]
  exact h _ ⟨T, H, hP, hR.1, hR.2.1, h2⟩
theorem rr_numberOf {post : Int32 → St2 → Prop} {u : St2} {M k : Nat} {w : Int32} {n : Nat → Nat} {v b : Nat → Int32} (hW : rr_W M w) (hL : rr_L M w n v b u) (hk : k < 16)
    (h : ∀ u, rr_L M w n v b u → post (rr_num n v b k) u) : wpX_numberOf post u (nI k) := by
  obtain ⟨T, H, hP, hG, hB, h2⟩ := hL
  obtain ⟨u_ms, u_ws, u_rs, u_an, u_ns, u_nv, u_nt, u_mg, u_ll, u_a1, u_a2, u_a3, u_a4, u_a5, u_a6, u_a7, u_a8, u_a9, u_a10, u_a11, u_a12⟩ := u
  unfold wpX_numberOf
  refine rr_leader (u := (u_ms, u_ws, u_rs, u_an, u_ns, u_nv, u_nt, u_mg, u_ll, u_a1, u_a2, u_a3, u_a4, u_a5, u_a6, u_a7, u_a8, u_a9, u_a10, u_a11, u_a12)) (fun c _ => ?_)
  refine rr_readNewest (u := (u_ms, u_ws, u_rs, u_an, u_ns, u_nv, u_nt, u_mg, u_ll, u_a1, u_a2, u_a3, u_a4, u_a5, u_a6, u_a7, u_a8, u_a9, u_a10, u_a11, u_a12)) hW.1 (hW.2 k hk) hk hG hB (h2 k hk) (fun y hR hs => ?_)
  obtain ⟨y_ms, y_ws, y_rs, y_an, y_ns, y_nv, y_nt, y_mg, y_ll, y_a1, y_a2, y_a3, y_a4, y_a5, y_a6, y_a7, y_a8, y_a9, y_a10, y_a11, y_a12⟩ := y
  exact rr_rnum (u := (y_ms, y_ws, y_rs, y_an, y_ns, y_nv, y_nt, y_mg, y_ll, y_a1, y_a2, y_a3, y_a4, y_a5, y_a6, y_a7, y_a8, y_a9, y_a10, y_a11, y_a12)) hP hk hR.2.2.2 hs (h (y_ms, y_ws, y_rs, y_an, y_ns, y_nv, y_nt, y_mg, y_ll, y_a1, y_a2, y_a3, y_a4, y_a5, y_a6, y_a7, y_a8, y_a9, y_a10, y_a11, y_a12) ⟨T, H, hP, hR.1, hR.2.1, h2⟩)
def rr_cnt (f : Nat → Int32) : Nat → Nat
  | 0 => 0
  | i + 1 => if f i = (-200000) then rr_cnt f i else rr_cnt f i + 1
def rr_sum (f : Nat → Int32) : Nat → Int32
  | 0 => 0
  | i + 1 => if f i = (-200000) then rr_sum f i else rr_sum f i + f i
theorem rr_size {post : Int32 → St2 → Prop} {u : St2} {M : Nat} {w : Int32} {n : Nat → Nat} {v b : Nat → Int32} (hW : rr_W M w) (hL : rr_L M w n v b u)
    (h : ∀ u, rr_L M w n v b u → post (nI (rr_cnt (rr_num n v b) 16)) u) : wpX_size post u := by
  obtain ⟨u_ms, u_ws, u_rs, u_an, u_ns, u_nv, u_nt, u_mg, u_ll, u_a1, u_a2, u_a3, u_a4, u_a5, u_a6, u_a7, u_a8, u_a9, u_a10, u_a11, u_a12⟩ := u
  refine pk_loop (σ := Int32 × St2) (fun m k s => wX_size_4 post m s.1 (nI k) s.2.1 s.2.2.1 s.2.2.2.1 s.2.2.2.2.1 s.2.2.2.2.2.1 s.2.2.2.2.2.2.1 s.2.2.2.2.2.2.2.1 s.2.2.2.2.2.2.2.2.1 s.2.2.2.2.2.2.2.2.2.1 s.2.2.2.2.2.2.2.2.2.2.1 s.2.2.2.2.2.2.2.2.2.2.2.1 s.2.2.2.2.2.2.2.2.2.2.2.2.1 s.2.2.2.2.2.2.2.2.2.2.2.2.2.1 s.2.2.2.2.2.2.2.2.2.2.2.2.2.2.1 s.2.2.2.2.2.2.2.2.2.2.2.2.2.2.2.1 s.2.2.2.2.2.2.2.2.2.2.2.2.2.2.2.2.1 s.2.2.2.2.2.2.2.2.2.2.2.2.2.2.2.2.2.1 s.2.2.2.2.2.2.2.2.2.2.2.2.2.2.2.2.2.2.1 s.2.2.2.2.2.2.2.2.2.2.2.2.2.2.2.2.2.2.2.1 s.2.2.2.2.2.2.2.2.2.2.2.2.2.2.2.2.2.2.2.2.1 s.2.2.2.2.2.2.2.2.2.2.2.2.2.2.2.2.2.2.2.2.2) (fun k s => s.1 = nI (rr_cnt (rr_num n v b) k) ∧ rr_L M w n v b s.2) 16 0 (0, (u_ms, u_ws, u_rs, u_an, u_ns, u_nv, u_nt, u_mg, u_ll, u_a1, u_a2, u_a3, u_a4, u_a5, u_a6, u_a7, u_a8, u_a9, u_a10, u_a11, u_a12)) (by omega) ⟨rfl, hL⟩ ?_ ?_
  · intro m s ⟨hs, hL⟩
    refine br_t (Int32.le_refl _) ?_
    rw [hs]
    exact h s.2 hL
  · intro m k s hk ⟨hs, hL⟩ hw
    refine br_f (nI_ge (b := 16) hk (by decide)) (rr_numberOf (u := (s.2.1, s.2.2.1, s.2.2.2.1, s.2.2.2.2.1, s.2.2.2.2.2.1, s.2.2.2.2.2.2.1, s.2.2.2.2.2.2.2.1, s.2.2.2.2.2.2.2.2.1, s.2.2.2.2.2.2.2.2.2.1, s.2.2.2.2.2.2.2.2.2.2.1, s.2.2.2.2.2.2.2.2.2.2.2.1, s.2.2.2.2.2.2.2.2.2.2.2.2.1, s.2.2.2.2.2.2.2.2.2.2.2.2.2.1, s.2.2.2.2.2.2.2.2.2.2.2.2.2.2.1, s.2.2.2.2.2.2.2.2.2.2.2.2.2.2.2.1, s.2.2.2.2.2.2.2.2.2.2.2.2.2.2.2.2.1, s.2.2.2.2.2.2.2.2.2.2.2.2.2.2.2.2.2.1, s.2.2.2.2.2.2.2.2.2.2.2.2.2.2.2.2.2.2.1, s.2.2.2.2.2.2.2.2.2.2.2.2.2.2.2.2.2.2.2.1, s.2.2.2.2.2.2.2.2.2.2.2.2.2.2.2.2.2.2.2.2.1, s.2.2.2.2.2.2.2.2.2.2.2.2.2.2.2.2.2.2.2.2.2)) hW hL hk (fun y hy => ?_))
    obtain ⟨y_ms, y_ws, y_rs, y_an, y_ns, y_nv, y_nt, y_mg, y_ll, y_a1, y_a2, y_a3, y_a4, y_a5, y_a6, y_a7, y_a8, y_a9, y_a10, y_a11, y_a12⟩ := y
    refine br_c (fun z => nm_e (nm_r (nI_1 k) (hw (_, (y_ms, y_ws, y_rs, y_an, y_ns, y_nv, y_nt, y_mg, y_ll, y_a1, y_a2, y_a3, y_a4, y_a5, y_a6, y_a7, y_a8, y_a9, y_a10, y_a11, y_a12)) ⟨?_, hy⟩))) (fun z => nm_e (nm_r (nI_1 k) (hw (_, (y_ms, y_ws, y_rs, y_an, y_ns, y_nv, y_nt, y_mg, y_ll, y_a1, y_a2, y_a3, y_a4, y_a5, y_a6, y_a7, y_a8, y_a9, y_a10, y_a11, y_a12)) ⟨?_, hy⟩)))
    · show s.1 + 0 = _
      unfold rr_cnt
      rw [if_pos z, hs]
      exact (nI_add _ 0)
    · show s.1 + 1 = _
      unfold rr_cnt
      rw [if_neg z, hs]
      exact (nI_1 _)
theorem rr_sumW {post : Int32 → St2 → Prop} {u : St2} {M : Nat} {w : Int32} {n : Nat → Nat} {v b : Nat → Int32} (hW : rr_W M w) (hL : rr_L M w n v b u)
    (h : ∀ u, rr_L M w n v b u → post (rr_sum (rr_num n v b) 16) u) : wpX_sum post u := by
  obtain ⟨u_ms, u_ws, u_rs, u_an, u_ns, u_nv, u_nt, u_mg, u_ll, u_a1, u_a2, u_a3, u_a4, u_a5, u_a6, u_a7, u_a8, u_a9, u_a10, u_a11, u_a12⟩ := u
  refine pk_loop (σ := Int32 × St2) (fun m k s => wX_sum_4 post m s.1 (nI k) s.2.1 s.2.2.1 s.2.2.2.1 s.2.2.2.2.1 s.2.2.2.2.2.1 s.2.2.2.2.2.2.1 s.2.2.2.2.2.2.2.1 s.2.2.2.2.2.2.2.2.1 s.2.2.2.2.2.2.2.2.2.1 s.2.2.2.2.2.2.2.2.2.2.1 s.2.2.2.2.2.2.2.2.2.2.2.1 s.2.2.2.2.2.2.2.2.2.2.2.2.1 s.2.2.2.2.2.2.2.2.2.2.2.2.2.1 s.2.2.2.2.2.2.2.2.2.2.2.2.2.2.1 s.2.2.2.2.2.2.2.2.2.2.2.2.2.2.2.1 s.2.2.2.2.2.2.2.2.2.2.2.2.2.2.2.2.1 s.2.2.2.2.2.2.2.2.2.2.2.2.2.2.2.2.2.1 s.2.2.2.2.2.2.2.2.2.2.2.2.2.2.2.2.2.2.1 s.2.2.2.2.2.2.2.2.2.2.2.2.2.2.2.2.2.2.2.1 s.2.2.2.2.2.2.2.2.2.2.2.2.2.2.2.2.2.2.2.2.1 s.2.2.2.2.2.2.2.2.2.2.2.2.2.2.2.2.2.2.2.2.2) (fun k s => s.1 = rr_sum (rr_num n v b) k ∧ rr_L M w n v b s.2) 16 0 (0, (u_ms, u_ws, u_rs, u_an, u_ns, u_nv, u_nt, u_mg, u_ll, u_a1, u_a2, u_a3, u_a4, u_a5, u_a6, u_a7, u_a8, u_a9, u_a10, u_a11, u_a12)) (by omega) ⟨rfl, hL⟩ ?_ ?_
  · intro m s ⟨hs, hL⟩
    refine br_t (Int32.le_refl _) ?_
    rw [hs]
    exact h s.2 hL
  · intro m k s hk ⟨hs, hL⟩ hw
    refine br_f (nI_ge (b := 16) hk (by decide)) (rr_numberOf (u := (s.2.1, s.2.2.1, s.2.2.2.1, s.2.2.2.2.1, s.2.2.2.2.2.1, s.2.2.2.2.2.2.1, s.2.2.2.2.2.2.2.1, s.2.2.2.2.2.2.2.2.1, s.2.2.2.2.2.2.2.2.2.1, s.2.2.2.2.2.2.2.2.2.2.1, s.2.2.2.2.2.2.2.2.2.2.2.1, s.2.2.2.2.2.2.2.2.2.2.2.2.1, s.2.2.2.2.2.2.2.2.2.2.2.2.2.1, s.2.2.2.2.2.2.2.2.2.2.2.2.2.2.1, s.2.2.2.2.2.2.2.2.2.2.2.2.2.2.2.1, s.2.2.2.2.2.2.2.2.2.2.2.2.2.2.2.2.1, s.2.2.2.2.2.2.2.2.2.2.2.2.2.2.2.2.2.1, s.2.2.2.2.2.2.2.2.2.2.2.2.2.2.2.2.2.2.1, s.2.2.2.2.2.2.2.2.2.2.2.2.2.2.2.2.2.2.2.1, s.2.2.2.2.2.2.2.2.2.2.2.2.2.2.2.2.2.2.2.2.1, s.2.2.2.2.2.2.2.2.2.2.2.2.2.2.2.2.2.2.2.2.2)) hW hL hk (fun y hy => ?_))
    obtain ⟨y_ms, y_ws, y_rs, y_an, y_ns, y_nv, y_nt, y_mg, y_ll, y_a1, y_a2, y_a3, y_a4, y_a5, y_a6, y_a7, y_a8, y_a9, y_a10, y_a11, y_a12⟩ := y
    refine br_c (fun z => nm_e (nm_r (nI_1 k) (hw (_, (y_ms, y_ws, y_rs, y_an, y_ns, y_nv, y_nt, y_mg, y_ll, y_a1, y_a2, y_a3, y_a4, y_a5, y_a6, y_a7, y_a8, y_a9, y_a10, y_a11, y_a12)) ⟨?_, hy⟩))) (fun z => nm_e (nm_r (nI_1 k) (hw (_, (y_ms, y_ws, y_rs, y_an, y_ns, y_nv, y_nt, y_mg, y_ll, y_a1, y_a2, y_a3, y_a4, y_a5, y_a6, y_a7, y_a8, y_a9, y_a10, y_a11, y_a12)) ⟨?_, hy⟩)))
    · show s.1 + 0 = _
      unfold rr_sum
      rw [if_pos z, hs]
      exact Int32.add_zero _
    · show s.1 + _ = _
      conv => rhs; unfold rr_sum
      rw [if_neg z, hs]
theorem rr_nk {post : Int32 → St2 → Prop} {u : St2} {M i0 j : Nat} {w : Int32} {n : Nat → Nat} {v b : Nat → Int32} (hW : rr_W M w) (hL : rr_L M w n v b u) (h0 : i0 ≤ j) (hj : j < 16) (hn : ∀ i, i0 ≤ i → i < j → rr_num n v b i = (-200000)) (hy : ¬ rr_num n v b j = (-200000))
    (h : ∀ u, rr_L M w n v b u → post (nI j) u) : ∃ m, wX_nextKey_10 post m (nI i0) u.1 u.2.1 u.2.2.1 u.2.2.2.1 u.2.2.2.2.1 u.2.2.2.2.2.1 u.2.2.2.2.2.2.1 u.2.2.2.2.2.2.2.1 u.2.2.2.2.2.2.2.2.1 u.2.2.2.2.2.2.2.2.2.1 u.2.2.2.2.2.2.2.2.2.2.1 u.2.2.2.2.2.2.2.2.2.2.2.1 u.2.2.2.2.2.2.2.2.2.2.2.2.1 u.2.2.2.2.2.2.2.2.2.2.2.2.2.1 u.2.2.2.2.2.2.2.2.2.2.2.2.2.2.1 u.2.2.2.2.2.2.2.2.2.2.2.2.2.2.2.1 u.2.2.2.2.2.2.2.2.2.2.2.2.2.2.2.2.1 u.2.2.2.2.2.2.2.2.2.2.2.2.2.2.2.2.2.1 u.2.2.2.2.2.2.2.2.2.2.2.2.2.2.2.2.2.2.1 u.2.2.2.2.2.2.2.2.2.2.2.2.2.2.2.2.2.2.2.1 u.2.2.2.2.2.2.2.2.2.2.2.2.2.2.2.2.2.2.2.2 := by
  refine pk_loop (fun m k (u : St2) => wX_nextKey_10 post m (nI k) u.1 u.2.1 u.2.2.1 u.2.2.2.1 u.2.2.2.2.1 u.2.2.2.2.2.1 u.2.2.2.2.2.2.1 u.2.2.2.2.2.2.2.1 u.2.2.2.2.2.2.2.2.1 u.2.2.2.2.2.2.2.2.2.1 u.2.2.2.2.2.2.2.2.2.2.1 u.2.2.2.2.2.2.2.2.2.2.2.1 u.2.2.2.2.2.2.2.2.2.2.2.2.1 u.2.2.2.2.2.2.2.2.2.2.2.2.2.1 u.2.2.2.2.2.2.2.2.2.2.2.2.2.2.1 u.2.2.2.2.2.2.2.2.2.2.2.2.2.2.2.1 u.2.2.2.2.2.2.2.2.2.2.2.2.2.2.2.2.1 u.2.2.2.2.2.2.2.2.2.2.2.2.2.2.2.2.2.1 u.2.2.2.2.2.2.2.2.2.2.2.2.2.2.2.2.2.2.1 u.2.2.2.2.2.2.2.2.2.2.2.2.2.2.2.2.2.2.2.1 u.2.2.2.2.2.2.2.2.2.2.2.2.2.2.2.2.2.2.2.2) (fun k u => i0 ≤ k ∧ rr_L M w n v b u) j i0 u h0 ⟨Nat.le_refl _, hL⟩ ?_ ?_
  · intro m u ⟨_, hL⟩
    refine br_f (nI_ge (b := 16) hj (by decide)) (rr_numberOf (u := (u.1, u.2.1, u.2.2.1, u.2.2.2.1, u.2.2.2.2.1, u.2.2.2.2.2.1, u.2.2.2.2.2.2.1, u.2.2.2.2.2.2.2.1, u.2.2.2.2.2.2.2.2.1, u.2.2.2.2.2.2.2.2.2.1, u.2.2.2.2.2.2.2.2.2.2.1, u.2.2.2.2.2.2.2.2.2.2.2.1, u.2.2.2.2.2.2.2.2.2.2.2.2.1, u.2.2.2.2.2.2.2.2.2.2.2.2.2.1, u.2.2.2.2.2.2.2.2.2.2.2.2.2.2.1, u.2.2.2.2.2.2.2.2.2.2.2.2.2.2.2.1, u.2.2.2.2.2.2.2.2.2.2.2.2.2.2.2.2.1, u.2.2.2.2.2.2.2.2.2.2.2.2.2.2.2.2.2.1, u.2.2.2.2.2.2.2.2.2.2.2.2.2.2.2.2.2.2.1, u.2.2.2.2.2.2.2.2.2.2.2.2.2.2.2.2.2.2.2.1, u.2.2.2.2.2.2.2.2.2.2.2.2.2.2.2.2.2.2.2.2)) hW hL hj (fun y hy' => ?_))
    obtain ⟨y_ms, y_ws, y_rs, y_an, y_ns, y_nv, y_nt, y_mg, y_ll, y_a1, y_a2, y_a3, y_a4, y_a5, y_a6, y_a7, y_a8, y_a9, y_a10, y_a11, y_a12⟩ := y
    exact br_f hy (h _ hy')
  · intro m k u hk ⟨hi, hL⟩ hw
    refine br_f (nI_ge (b := 16) (by omega) (by decide)) (rr_numberOf (u := (u.1, u.2.1, u.2.2.1, u.2.2.2.1, u.2.2.2.2.1, u.2.2.2.2.2.1, u.2.2.2.2.2.2.1, u.2.2.2.2.2.2.2.1, u.2.2.2.2.2.2.2.2.1, u.2.2.2.2.2.2.2.2.2.1, u.2.2.2.2.2.2.2.2.2.2.1, u.2.2.2.2.2.2.2.2.2.2.2.1, u.2.2.2.2.2.2.2.2.2.2.2.2.1, u.2.2.2.2.2.2.2.2.2.2.2.2.2.1, u.2.2.2.2.2.2.2.2.2.2.2.2.2.2.1, u.2.2.2.2.2.2.2.2.2.2.2.2.2.2.2.1, u.2.2.2.2.2.2.2.2.2.2.2.2.2.2.2.2.1, u.2.2.2.2.2.2.2.2.2.2.2.2.2.2.2.2.2.1, u.2.2.2.2.2.2.2.2.2.2.2.2.2.2.2.2.2.2.1, u.2.2.2.2.2.2.2.2.2.2.2.2.2.2.2.2.2.2.2.1, u.2.2.2.2.2.2.2.2.2.2.2.2.2.2.2.2.2.2.2.2)) hW hL (by omega) (fun y hy' => ?_))
    obtain ⟨y_ms, y_ws, y_rs, y_an, y_ns, y_nv, y_nt, y_mg, y_ll, y_a1, y_a2, y_a3, y_a4, y_a5, y_a6, y_a7, y_a8, y_a9, y_a10, y_a11, y_a12⟩ := y
    exact br_t (hn k hi hk) (nm_r (nI_1 k) (hw (y_ms, y_ws, y_rs, y_an, y_ns, y_nv, y_nt, y_mg, y_ll, y_a1, y_a2, y_a3, y_a4, y_a5, y_a6, y_a7, y_a8, y_a9, y_a10, y_a11, y_a12) ⟨by omega, hy'⟩))
theorem rr_nextKey {post : Int32 → St2 → Prop} {u : St2} {M j : Nat} {w x : Int32} {n : Nat → Nat} {v b : Nat → Int32} (hW : rr_W M w) (hL : rr_L M w n v b u) (hx : x ≤ 0) (hj : j < 16) (hn : ∀ i, i < j → rr_num n v b i = (-200000)) (hy : ¬ rr_num n v b j = (-200000))
    (h : ∀ u, rr_L M w n v b u → post (nI j) u) : wpX_nextKey post u x := by
  obtain ⟨u_ms, u_ws, u_rs, u_an, u_ns, u_nv, u_nt, u_mg, u_ll, u_a1, u_a2, u_a3, u_a4, u_a5, u_a6, u_a7, u_a8, u_a9, u_a10, u_a11, u_a12⟩ := u
  have key := rr_nk (u := (u_ms, u_ws, u_rs, u_an, u_ns, u_nv, u_nt, u_mg, u_ll, u_a1, u_a2, u_a3, u_a4, u_a5, u_a6, u_a7, u_a8, u_a9, u_a10, u_a11, u_a12)) (i0 := 0) hW hL (Nat.zero_le j) hj (fun i _ z => hn i z) hy h
  refine br_c (fun z => ?_) (fun z => key)
  have e : x = 0 := Int32.le_antisymm hx z
  rw [e]
  exact key
theorem rr_nextKeyN {post : Int32 → St2 → Prop} {u : St2} (h : post (-200000) u) : wpX_nextKey post u 16 := by
  obtain ⟨u_ms, u_ws, u_rs, u_an, u_ns, u_nv, u_nt, u_mg, u_ll, u_a1, u_a2, u_a3, u_a4, u_a5, u_a6, u_a7, u_a8, u_a9, u_a10, u_a11, u_a12⟩ := u
  exact br_t (by decide) ⟨1, br_t (by decide) h⟩
theorem rr_lose {post : Int32 → St2 → Prop} {u : St2} {M j : Nat} {w : Int32} {n : Nat → Nat} {v b : Nat → Int32} (hL : rr_L M w n v b u) (hj : j ≤ 30)
    (h : ∀ u, rr_L M w n v b u → post 1 u) : wpX_lose post u (nI j) := by
  obtain ⟨T, H, hP, hG, hB, h2⟩ := hL
  obtain ⟨u_ms, u_ws, u_rs, u_an, u_ns, u_nv, u_nt, u_mg, u_ll, u_a1, u_a2, u_a3, u_a4, u_a5, u_a6, u_a7, u_a8, u_a9, u_a10, u_a11, u_a12⟩ := u
  exact br_f (nI_pos (by omega)) (br_t (nI_le hj (by decide)) (h _ ⟨T, H, hP, hG, ⟨⟨j, hj, rfl⟩, hB.2⟩, h2⟩))
theorem rr_tidy {post : Int32 → St2 → Prop} {u : St2} {M : Nat} {w : Int32} {n : Nat → Nat} {v b : Nat → Int32} (hW : rr_W M w) (hL : rr_L M w n v b u)
    (h : ∀ u, rr_L M w n v b u → post (nI (rr_cnt (rr_num n v b) 16)) u) : wpX_tidy post u := by
  obtain ⟨T, H, hP, hG, hB, h2⟩ := hL
  obtain ⟨u_ms, u_ws, u_rs, u_an, u_ns, u_nv, u_nt, u_mg, u_ll, u_a1, u_a2, u_a3, u_a4, u_a5, u_a6, u_a7, u_a8, u_a9, u_a10, u_a11, u_a12⟩ := u
  unfold wpX_tidy
  refine rr_compareAll (u := (u_ms, u_ws, u_rs, u_an, u_ns, u_nv, u_nt, u_mg, u_ll, u_a1, u_a2, u_a3, u_a4, u_a5, u_a6, u_a7, u_a8, u_a9, u_a10, u_a11, u_a12)) hW.1 hG hB (fun y g1 g2 => ?_)
  obtain ⟨y_ms, y_ws, y_rs, y_an, y_ns, y_nv, y_nt, y_mg, y_ll, y_a1, y_a2, y_a3, y_a4, y_a5, y_a6, y_a7, y_a8, y_a9, y_a10, y_a11, y_a12⟩ := y
  refine rr_size (u := (y_ms, y_ws, y_rs, y_an, y_ns, y_nv, y_nt, y_mg, y_ll, y_a1, y_a2, y_a3, y_a4, y_a5, y_a6, y_a7, y_a8, y_a9, y_a10, y_a11, y_a12)) hW ⟨T, H, hP, g1, g2, h2⟩ (fun x hx => ?_)
  obtain ⟨x_ms, x_ws, x_rs, x_an, x_ns, x_nv, x_nt, x_mg, x_ll, x_a1, x_a2, x_a3, x_a4, x_a5, x_a6, x_a7, x_a8, x_a9, x_a10, x_a11, x_a12⟩ := x
  exact h _ hx
end
section
theorem rr_L_ext {M : Nat} {w : Int32} {n n' : Nat → Nat} {v v' b b' : Nat → Int32} {u : St2} (h : rr_L M w n v b u) (hn : ∀ k, k < 16 → n' k = n k) (hv : ∀ k, k < 16 → v' k = v k) (hb : ∀ k, k < 16 → b' k = b k) : rr_L M w n' v' b' u := by
  obtain ⟨T, H, hP, hG, hB, h2⟩ := h
  refine ⟨T, H, fun k hk => ?_, hG, hB, h2⟩
  have y := hP k hk
  rw [← hn k hk, ← hv k hk, ← hb k hk] at y
  exact y
theorem rr_kp_two (M k : Nat) : rr_two M k (rr_kp M) := fun i hi _ _ _ => Or.inl ⟨i, hi, rfl⟩
theorem rr_moved {post : Int32 → St2 → Prop} {u : St2} {M M' : Nat} {w : Int32} {n : Nat → Nat} {v b : Nat → Int32} (hS : M ∈ rr_sets) (hS' : M' ∈ rr_sets) (hL : rr_L M w n v b u)
    (h : ∀ u, rr_L M' (nI M') n v b u → post (rr_ones (nI M')) u) : wpX_moveTo (fun u => wpX_ones (fun r => post r u) () u.1) u (nI M') := by
  obtain ⟨T, H, hP, hG, hB, h2⟩ := hL
  refine rr_moveTo hS hS' hG.1 hB h2 (fun u g1 g2 => rr_onesW ?_)
  rw [g1.1]
  exact h u ⟨T, _, hP, g1, g2, fun k _ => rr_kp_two M' k⟩
theorem rr_join {post : Int32 → St2 → Prop} {u : St2} {M M' m : Nat} {n : Nat → Nat} {v b : Nat → Int32} (hS : M ∈ rr_sets) (hS' : M' ∈ rr_sets) (hm : m < 6) (hb : rr_bit (nI M) m = false) (eM : nI M ||| ((1 : Int32) <<< (nI m &&& 31)) = nI M') (hL : rr_L M (nI M) n v b u)
    (h : ∀ u, rr_L M' (nI M') n v b u → post (rr_ones (nI M')) u) : wpX_join post u (nI m) := by
  have hL' := hL
  obtain ⟨T, H, hP, hG, hB, h2⟩ := hL
  obtain ⟨u_ms, u_ws, u_rs, u_an, u_ns, u_nv, u_nt, u_mg, u_ll, u_a1, u_a2, u_a3, u_a4, u_a5, u_a6, u_a7, u_a8, u_a9, u_a10, u_a11, u_a12⟩ := u
  unfold wpX_join
  have hms : u_ms = nI M := hG.1
  have hws : u_ws = nI M := hG.2.1
  subst hms hws
  refine rr_isMachine hm (br_f (by decide) (rr_isMember hm (fun z => ?_) (fun _ => br_t rfl (br_t rfl ?_))))
  · have z' : rr_bit (nI M) m = true := z
    rw [hb] at z'
    exact absurd z' (by decide)
  · rw [eM]
    refine rr_moveTo hS hS' rfl hB h2 (fun y g1 g2 => ?_)
    obtain ⟨y_ms, y_ws, y_rs, y_an, y_ns, y_nv, y_nt, y_mg, y_ll, y_a1, y_a2, y_a3, y_a4, y_a5, y_a6, y_a7, y_a8, y_a9, y_a10, y_a11, y_a12⟩ := y
    have e : y_ms = nI M' := g1.1
    subst e
    exact rr_onesW (h _ ⟨T, _, hP, g1, g2, fun k _ => rr_kp_two M' k⟩)
theorem rr_leave {post : Int32 → St2 → Prop} {u : St2} {M M' m : Nat} {n : Nat → Nat} {v b : Nat → Int32} (hS : M ∈ rr_sets) (hS' : M' ∈ rr_sets) (hm : m < 6) (hb : rr_bit (nI M) m = true) (h3 : ¬ rr_ones (nI M) = 3) (eM : nI M &&& (((1 : Int32) <<< (nI m &&& 31)) ^^^ (-1)) = nI M') (hL : rr_L M (nI M) n v b u)
    (h : ∀ u, rr_L M' (nI M') n v b u → post (rr_ones (nI M')) u) : wpX_leave post u (nI m) := by
  obtain ⟨T, H, hP, hG, hB, h2⟩ := hL
  obtain ⟨u_ms, u_ws, u_rs, u_an, u_ns, u_nv, u_nt, u_mg, u_ll, u_a1, u_a2, u_a3, u_a4, u_a5, u_a6, u_a7, u_a8, u_a9, u_a10, u_a11, u_a12⟩ := u
  unfold wpX_leave
  have hms : u_ms = nI M := hG.1
  have hws : u_ws = nI M := hG.2.1
  subst hms hws
  refine rr_isMachine hm (br_f (by decide) (rr_isMember hm (fun _ => br_f (by decide) (rr_onesW (br_f h3 (br_t rfl ?_)))) (fun z => ?_)))
  · rw [eM]
    refine rr_moveTo hS hS' rfl hB h2 (fun y g1 g2 => ?_)
    obtain ⟨y_ms, y_ws, y_rs, y_an, y_ns, y_nv, y_nt, y_mg, y_ll, y_a1, y_a2, y_a3, y_a4, y_a5, y_a6, y_a7, y_a8, y_a9, y_a10, y_a11, y_a12⟩ := y
    have e : y_ms = nI M' := g1.1
    subst e
    exact rr_onesW (h _ ⟨T, _, hP, g1, g2, fun k _ => rr_kp_two M' k⟩)
  · have z' : rr_bit (nI M) m = false := z
    rw [hb] at z'
    exact absurd z' (by decide)
theorem rr_leaveR {post : Int32 → St2 → Prop} {u : St2} {m : Nat} (hm : m < 6) (h3 : rr_ones u.1 = 3) (h : post (-300000) u) : wpX_leave post u (nI m) := by
  obtain ⟨u_ms, u_ws, u_rs, u_an, u_ns, u_nv, u_nt, u_mg, u_ll, u_a1, u_a2, u_a3, u_a4, u_a5, u_a6, u_a7, u_a8, u_a9, u_a10, u_a11, u_a12⟩ := u
  unfold wpX_leave
  exact rr_isMachine hm (br_f (by decide) (rr_isMember hm (fun _ => br_f (by decide) (rr_onesW (br_t h3 h))) (fun _ => br_t rfl h)))
theorem rr_joinR {post : Int32 → St2 → Prop} {u : St2} {m : Nat} (hm : m < 6) (hb : rr_bit u.1 m = true) (h : post (-300000) u) : wpX_join post u (nI m) := by
  obtain ⟨u_ms, u_ws, u_rs, u_an, u_ns, u_nv, u_nt, u_mg, u_ll, u_a1, u_a2, u_a3, u_a4, u_a5, u_a6, u_a7, u_a8, u_a9, u_a10, u_a11, u_a12⟩ := u
  unfold wpX_join
  refine rr_isMachine hm (br_f (by decide) (rr_isMember hm (fun _ => br_f (by decide) h) (fun z => ?_)))
  have z' : rr_bit u_ms m = false := z
  have hb' : rr_bit u_ms m = true := hb
  rw [hb'] at z'
  exact absurd z' (by decide)
def rr_dn (m : Nat) : Int32 := (63 : Int32) &&& (((1 : Int32) <<< (nI m &&& 31)) ^^^ (-1))
theorem rr_D1 : ∀ m, m < 6 → rr_bit (nI 63) m = true ∧ rr_bit (rr_dn m) m = false ∧ rr_dn m ||| ((1 : Int32) <<< (nI m &&& 31)) = nI 63 ∧ ¬ rr_dn m = nI 63 := by decide +kernel
theorem rr_D2 : ∀ m, m < 6 → ∀ c, c < 6 → c ≠ m → rr_bit (rr_dn m) c = true := by decide +kernel
theorem rr_Wd {m : Nat} (hm : m < 6) : rr_W 63 (rr_dn m) := ⟨by decide, fun k hk => rr_F7 m hm k hk⟩
theorem rr_WM {M : Nat} (hS : M ∈ rr_sets) : rr_W M (nI M) := ⟨hS, fun k hk q hq z => Nat.le_trans (by decide) (rr_F6 M hS k hk q hq z)⟩
theorem rr_down {post : Int32 → St2 → Prop} {u : St2} {m : Nat} {n : Nat → Nat} {v b : Nat → Int32} (hm : m < 6) (hL : rr_L 63 (nI 63) n v b u) (h : ∀ u, rr_L 63 (rr_dn m) n v b u → post 1 u) : wpX_down post u (nI m) := by
  obtain ⟨T, H, hP, hG, hB, h2⟩ := hL
  obtain ⟨u_ms, u_ws, u_rs, u_an, u_ns, u_nv, u_nt, u_mg, u_ll, u_a1, u_a2, u_a3, u_a4, u_a5, u_a6, u_a7, u_a8, u_a9, u_a10, u_a11, u_a12⟩ := u
  unfold wpX_down
  have hms : u_ms = nI 63 := hG.1
  have hws : u_ws = nI 63 := hG.2.1
  subst hms hws
  refine rr_isWorking hm (fun _ => br_f (by decide) (br_t rfl (nm_r (e' := rr_dn m) rfl (h _ ⟨T, H, hP, ⟨rfl, rfl, hG.2.2⟩, hB, h2⟩)))) (fun z => ?_)
  have z' : rr_bit (nI 63) m = false := z
  rw [(rr_D1 m hm).1] at z'
  exact absurd z' (by decide)
theorem rr_down0 {post : Int32 → St2 → Prop} {u : St2} {c : Nat} (hc : c < 6) (hne : ¬ u.2.1 = u.1) (h : post 0 u) : wpX_down post u (nI c) := by
  obtain ⟨u_ms, u_ws, u_rs, u_an, u_ns, u_nv, u_nt, u_mg, u_ll, u_a1, u_a2, u_a3, u_a4, u_a5, u_a6, u_a7, u_a8, u_a9, u_a10, u_a11, u_a12⟩ := u
  unfold wpX_down
  exact rr_isWorking hc (fun _ => br_f (by decide) (br_f hne h)) (fun _ => br_t rfl h)
theorem rr_upL {post : Int32 → St2 → Prop} {u : St2} {m : Nat} {x : Int32} {n : Nat → Nat} {v b : Nat → Int32} (hm : m < 6) (hL : rr_L 63 (rr_dn m) n v b u) (h : ∀ u, rr_L 63 (nI 63) n v b u → post 1 u) : wpX_up post u (nI m) x := by
  obtain ⟨T, H, hP, hG, hB, h2⟩ := hL
  obtain ⟨d1, d2, d3, _⟩ := rr_D1 m hm
  have hS : 63 ∈ rr_sets := by decide
  refine rr_up hS hm d1 d2 hG hB (fun u g1 g2 => ?_)
  rw [d3] at g1 g2
  refine h u ⟨T, _, hP, g1, g2, fun k hk i hi j hj hij => ?_⟩
  have F4 := rr_F4 63 hS k hk
  -- a keeper other than m that is known to have the newest
  have other : ∀ i, i < 3 → rr_kt 63 k i = m → ∀ j, j < 3 → j ≠ i → H (rr_kt 63 k j) k → (rr_kt 63 k i = m ∧ ∃ b, b < 6 ∧ b ≠ m ∧ rr_bit (nI 63) b = true ∧ rr_kp 63 m k ∧ rr_kp 63 b k ∧ (b ≠ m ∧ H b k)) := by
    intro i hi ei j hj hji hH
    have hne : rr_kt 63 k j ≠ m := fun e => hji (F4 j hj i hi (e.trans ei.symm))
    exact ⟨ei, rr_kt 63 k j, (rr_F3 63 hS k hk j hj).1, hne, (rr_D1 _ (rr_F3 63 hS k hk j hj).1).1, ⟨i, hi, ei⟩, ⟨j, hj, rfl⟩, hne, hH⟩
  have third : ∀ i, i < 3 → ∀ j, j < 3 → i ≠ j → ∃ t, t < 3 ∧ t ≠ i ∧ t ≠ j := by decide
  obtain ⟨t, ht, hti, htj⟩ := third i hi j hj hij
  by_cases ei : rr_kt 63 k i = m
  · have ej : rr_kt 63 k j ≠ m := fun e => hij (F4 i hi j hj (ei.trans e.symm))
    rcases h2 k hk j hj t ht (Ne.symm htj) with z | z
    · exact Or.inr (Or.inl ⟨ej, z⟩)
    · exact Or.inl (Or.inr (other i hi ei t ht hti z))
  · by_cases ej : rr_kt 63 k j = m
    · rcases h2 k hk i hi t ht (Ne.symm hti) with z | z
      · exact Or.inl (Or.inl ⟨ei, z⟩)
      · exact Or.inr (Or.inr (other j hj ej t ht htj z))
    · rcases h2 k hk i hi j hj hij with z | z
      · exact Or.inl (Or.inl ⟨ei, z⟩)
      · exact Or.inr (Or.inl ⟨ej, z⟩)
theorem rr_init {post : St2 → Prop} (h : ∀ u, rr_L 7 (nI 7) (fun _ => 0) (fun _ => 0) (fun _ => 0) u → post u) : wpX_init post 12 2160 (0, 0, 0, 0, 0, 0, 0, 0, 0) := by
  refine ⟨by omega, by omega, by omega, by omega, by omega, by omega, by omega, by omega, by omega, by omega, by omega, by omega, by omega, by omega, by omega, by omega, by omega, by omega, by omega, by omega, by omega, by omega, by omega, by omega, ?_⟩
  refine rr_layRing (M := 7) (by decide) rfl (fun b1 b2 hM => ?_)
  have o : rr_o (0, 0, 0) 0 0 0 := rr_o_0 (Int32.le_refl 0)
  exact h _ ⟨fun _ => (0, 0, 0), fun _ _ => True, fun k _ => ⟨0, by omega, fun _ => rfl, Nat.zero_le 100, rfl, Or.inl rfl⟩, ⟨rfl, rfl, rfl, hM⟩, ⟨⟨0, by omega, rfl⟩, fun _ _ _ _ => o, fun _ _ _ _ _ _ => o, fun _ _ _ _ _ => rfl⟩, fun _ _ _ _ _ _ _ => Or.inl trivial⟩
end
section
/-- the picture while the first loop of the law runs -/
def rr_n1 (k j : Nat) : Nat := if j < k then 1 else if 8 ≤ j ∧ j < 8 + k then 1 else 0
def rr_v1 (s : Int32) (k j : Nat) : Int32 := if j < k then s + nI j else if 8 ≤ j ∧ j < 8 + k then s - nI (j - 8) else 0
/-- the picture while its third loop runs -/
def rr_n3 (i j : Nat) : Nat := if j < i then 2 else if j < 8 then 1 else if j < 8 + i then 3 else 1
def rr_v3 (s : Int32) (i j : Nat) : Int32 := if j < i then (s + 100) + nI j else if j < 8 then s + nI j else if j < 8 + i then 7 else s - nI (j - 8)
def rr_z (_ : Nat) : Int32 := 0
def rr_s2 (g : Nat → Int32) : Nat → Int32
  | 0 => 0
  | i + 1 => rr_s2 g i + g i
theorem rr_rng {x : Int32} (h1 : -9999 ≤ x.toInt) (h2 : x.toInt ≤ 9999) : ¬ x < (-9999) ∧ ¬ 9999 < x ∧ ¬ x = (-200000) := by
  have e1 : (-9999 : Int32).toInt = -9999 := by decide
  have e2 : (9999 : Int32).toInt = 9999 := by decide
  have e3 : (-200000 : Int32).toInt = -200000 := by decide
  refine ⟨?_, ?_, ?_⟩
  · rw [Int32.lt_iff_toInt_lt, e1]; omega
  · rw [Int32.lt_iff_toInt_lt, e2]; omega
  · intro e
    rw [e, e3] at h1
    omega
theorem rr_r1 {t j : Nat} (ht : t < 4096) (hj : j < 16) : ¬ nI t + nI j < (-9999) ∧ ¬ 9999 < nI t + nI j ∧ ¬ nI t + nI j = (-200000) := by
  have e : (nI t + nI j).toInt = ((t + j : Nat) : Int) := by rw [nI_add, nI_toInt (by omega)]
  exact rr_rng (by rw [e]; omega) (by rw [e]; omega)
theorem rr_r2 {t j : Nat} (ht : t < 4096) (hj : j < 16) : ¬ (nI t + 100) + nI j < (-9999) ∧ ¬ 9999 < (nI t + 100) + nI j ∧ ¬ (nI t + 100) + nI j = (-200000) := by
  have e : ((nI t + 100) + nI j).toInt = ((t + 100 + j : Nat) : Int) := by rw [show (100 : Int32) = nI 100 from rfl, nI_add, nI_add, nI_toInt (by omega)]
  exact rr_rng (by rw [e]; omega) (by rw [e]; omega)
theorem rr_r3 {t j : Nat} (ht : t < 4096) (hj : j < 16) : ¬ nI t - nI j < (-9999) ∧ ¬ 9999 < nI t - nI j ∧ ¬ nI t - nI j = (-200000) := by
  have e : (nI t - nI j).toInt = (t : Int) - j := pk_sub_toInt (by omega) (by omega)
  exact rr_rng (by rw [e]; omega) (by rw [e]; omega)
theorem rr_v3_ne {t i j : Nat} (ht : t < 4096) (hj : j < 16) : ¬ rr_v3 (nI t) i j = (-200000) := by
  unfold rr_v3
  by_cases c1 : j < i
  · rw [if_pos c1]; exact (rr_r2 ht hj).2.2
  · rw [if_neg c1]
    by_cases c2 : j < 8
    · rw [if_pos c2]; exact (rr_r1 ht hj).2.2
    · rw [if_neg c2]
      by_cases c3 : j < 8 + i
      · rw [if_pos c3]; decide
      · rw [if_neg c3]; exact (rr_r3 ht (by omega)).2.2
theorem rr_n3_ne (i j : Nat) : rr_n3 i j ≠ 0 := by
  unfold rr_n3
  by_cases c1 : j < i
  · rw [if_pos c1]; decide
  · rw [if_neg c1]
    by_cases c2 : j < 8
    · rw [if_pos c2]; decide
    · rw [if_neg c2]
      by_cases c3 : j < 8 + i
      · rw [if_pos c3]; decide
      · rw [if_neg c3]; decide
theorem rr_n3_le (i j : Nat) : rr_n3 i j < 90 := by
  unfold rr_n3
  by_cases c1 : j < i
  · rw [if_pos c1]; decide
  · rw [if_neg c1]
    by_cases c2 : j < 8
    · rw [if_pos c2]; decide
    · rw [if_neg c2]
      by_cases c3 : j < 8 + i
      · rw [if_pos c3]; decide
      · rw [if_neg c3]; decide
theorem rr_num1 {n : Nat → Nat} {v b : Nat → Int32} {k : Nat} (hn : n k ≠ 0) (hb : b k = 0) : rr_num n v b k = v k := by
  unfold rr_num
  rw [if_neg (by intro z; rcases z with z | z; exact hn z; exact z hb)]
theorem rr_num0 {n : Nat → Nat} {v b : Nat → Int32} {k : Nat} (hn : n k = 0) : rr_num n v b k = (-200000) := if_pos (Or.inl hn)
theorem rr_numb {n : Nat → Nat} {v b : Nat → Int32} {k : Nat} (hb : ¬ b k = 0) : rr_num n v b k = (-200000) := if_pos (Or.inr hb)
theorem rr_num3 (s : Int32) (i j : Nat) : rr_num (rr_n3 i) (rr_v3 s i) rr_z j = rr_v3 s i j := rr_num1 (rr_n3_ne i j) rfl
theorem rr_cnt_all {f : Nat → Int32} : ∀ N, (∀ j, j < N → ¬ f j = (-200000)) → rr_cnt f N = N := by
  intro N
  induction N with
  | zero => intro _; rfl
  | succ N ih =>
    intro h
    unfold rr_cnt
    rw [if_neg (h N (by omega)), ih (fun j hj => h j (by omega))]
theorem rr_cnt_none {f : Nat → Int32} : ∀ N, (∀ j, j < N → f j = (-200000)) → rr_cnt f N = 0 := by
  intro N
  induction N with
  | zero => intro _; rfl
  | succ N ih =>
    intro h
    unfold rr_cnt
    rw [if_pos (h N (by omega)), ih (fun j hj => h j (by omega))]
theorem rr_sum_ext {f g : Nat → Int32} : ∀ N, (∀ j, j < N → ¬ f j = (-200000)) → (∀ j, j < N → f j = g j) → rr_sum f N = rr_s2 g N := by
  intro N
  induction N with
  | zero => intro _ _; rfl
  | succ N ih =>
    intro h h'
    unfold rr_sum rr_s2
    rw [if_neg (h N (by omega)), ih (fun j hj => h j (by omega)) (fun j hj => h' j (by omega)), h' N (by omega)]
theorem rr_sum16 (s : Int32) : rr_s2 (rr_v3 s 6) 16 = (((6 * (s + 100)) + 15) + 42) + (4 * s) := by
  have e : rr_s2 (rr_v3 s 6) 16 = 0 + ((s + 100) + 0) + ((s + 100) + 1) + ((s + 100) + 2) + ((s + 100) + 3) + ((s + 100) + 4) + ((s + 100) + 5) + (s + 6) + (s + 7) + 7 + 7 + 7 + 7 + 7 + 7 + (s - 6) + (s - 7) := rfl
  rw [e]
  grind
/-- the pictures of the two loops meet -/
theorem rr_13 {M : Nat} {w s : Int32} {u : St2} (h : rr_L M w (rr_n1 8) (rr_v1 s 8) rr_z u) : rr_L M w (rr_n3 0) (rr_v3 s 0) rr_z u := by
  refine rr_L_ext h (fun k hk => ?_) (fun k hk => ?_) (fun k hk => rfl)
  · unfold rr_n3 rr_n1
    by_cases c : k < 8
    · simp [c]
    · simp [c, show ¬ k < 0 by omega, show 8 ≤ k by omega, show k < 16 by omega]
  · unfold rr_v3 rr_v1
    by_cases c : k < 8
    · simp [c]
    · simp [c, show ¬ k < 0 by omega, show 8 ≤ k by omega, show k < 16 by omega]
/-- a turn of the first loop -/
theorem rr_1s {M k : Nat} {w s : Int32} {u : St2} (hk : k < 8) (h : rr_L M w (rr_pn (rr_pn (rr_n1 k) k (rr_n1 k k + 1)) (k + 8) (rr_pn (rr_n1 k) k (rr_n1 k k + 1) (k + 8) + 1)) (upd (upd (rr_v1 s k) k (s + nI k)) (k + 8) (s - nI k)) (upd (upd rr_z k 0) (k + 8) 0) u) :
    rr_L M w (rr_n1 (k + 1)) (rr_v1 s (k + 1)) rr_z u := by
  refine rr_L_ext h (fun j hj => ?_) (fun j hj => ?_) (fun j hj => ?_)
  · by_cases c1 : j = k + 8
    · subst c1
      rw [rr_pn_s, rr_pn_n _ (show k + 8 ≠ k by omega)]
      unfold rr_n1
      simp [show ¬ k + 8 < k + 1 by omega, show k + 8 < 8 + (k + 1) by omega, show ¬ k + 8 < k by omega, show ¬ k + 8 < 8 + k by omega]
    · rw [rr_pn_n _ c1]
      by_cases c2 : j = k
      · subst c2
        rw [rr_pn_s]
        unfold rr_n1
        simp [show ¬ 8 ≤ j by omega]
      · rw [rr_pn_n _ c2]
        unfold rr_n1
        by_cases c3 : j < k
        · simp [c3, show j < k + 1 by omega]
        · simp only [c3, show ¬ j < k + 1 by omega, if_false]
          by_cases c4 : 8 ≤ j ∧ j < 8 + k
          · rw [if_pos c4, if_pos (by omega)]
          · rw [if_neg c4, if_neg (by omega)]
  · by_cases c1 : j = k + 8
    · subst c1
      rw [pk_us]
      unfold rr_v1
      simp [show ¬ k + 8 < k + 1 by omega, show k + 8 < 8 + (k + 1) by omega]
    · rw [pk_un c1]
      by_cases c2 : j = k
      · subst c2
        rw [pk_us]
        unfold rr_v1
        simp
      · rw [pk_un c2]
        unfold rr_v1
        by_cases c3 : j < k
        · simp [c3, show j < k + 1 by omega]
        · simp only [c3, show ¬ j < k + 1 by omega, if_false]
          by_cases c4 : 8 ≤ j ∧ j < 8 + k
          · rw [if_pos c4, if_pos (by omega)]
          · rw [if_neg c4, if_neg (by omega)]
  · by_cases c1 : j = k + 8
    · rw [c1, pk_us]; rfl
    · rw [pk_un c1]
      by_cases c2 : j = k
      · rw [c2, pk_us]; rfl
      · rw [pk_un c2]
/-- the picture inside a turn of the third loop: behind put and remove -/
def rr_n3b (i : Nat) : Nat → Nat := rr_pn (rr_pn (rr_n3 i) i (rr_n3 i i + 1)) (i + 8) (rr_pn (rr_n3 i) i (rr_n3 i i + 1) (i + 8) + 1)
theorem rr_3s {M i : Nat} {w s : Int32} {u : St2} (hi : i < 6) (h : rr_L M w (rr_pn (rr_n3b i) (i + 8) (rr_n3b i (i + 8) + 1)) (upd (upd (upd (rr_v3 s i) i ((s + 100) + nI i)) (i + 8) 0) (i + 8) 7) (upd (upd (upd rr_z i 0) (i + 8) 1) (i + 8) 0) u) :
    rr_L M w (rr_n3 (i + 1)) (rr_v3 s (i + 1)) rr_z u := by
  refine rr_L_ext h (fun j hj => ?_) (fun j hj => ?_) (fun j hj => ?_)
  · by_cases c1 : j = i + 8
    · subst c1
      unfold rr_n3b
      rw [rr_pn_s, rr_pn_s, rr_pn_n _ (show i + 8 ≠ i by omega)]
      unfold rr_n3
      simp [show ¬ i + 8 < i + 1 by omega, show i + 8 < 8 + (i + 1) by omega, show ¬ i + 8 < i by omega, show ¬ i + 8 < 8 + i by omega, show ¬ i + 8 < 8 by omega]
    · rw [rr_pn_n _ c1]
      unfold rr_n3b
      rw [rr_pn_n _ c1]
      by_cases c2 : j = i
      · subst c2
        rw [rr_pn_s]
        unfold rr_n3
        simp [show j < 8 by omega]
      · rw [rr_pn_n _ c2]
        unfold rr_n3
        by_cases c3 : j < i
        · simp [c3, show j < i + 1 by omega]
        · simp only [c3, show ¬ j < i + 1 by omega, if_false]
          by_cases c4 : j < 8
          · rw [if_pos c4, if_pos c4]
          · rw [if_neg c4, if_neg c4]
            by_cases c5 : j < 8 + i
            · rw [if_pos c5, if_pos (by omega)]
            · rw [if_neg c5, if_neg (by omega)]
  · by_cases c1 : j = i + 8
    · subst c1
      rw [pk_us]
      unfold rr_v3
      simp [show ¬ i + 8 < i + 1 by omega, show i + 8 < 8 + (i + 1) by omega, show ¬ i + 8 < 8 by omega]
    · rw [pk_un c1, pk_un c1]
      by_cases c2 : j = i
      · subst c2
        rw [pk_us]
        unfold rr_v3
        simp
      · rw [pk_un c2]
        unfold rr_v3
        by_cases c3 : j < i
        · simp [c3, show j < i + 1 by omega]
        · simp only [c3, show ¬ j < i + 1 by omega, if_false]
          by_cases c4 : j < 8
          · rw [if_pos c4, if_pos c4]
          · rw [if_neg c4, if_neg c4]
            by_cases c5 : j < 8 + i
            · rw [if_pos c5, if_pos (by omega)]
            · rw [if_neg c5, if_neg (by omega)]
  · by_cases c1 : j = i + 8
    · rw [c1, pk_us]; rfl
    · rw [pk_un c1, pk_un c1]
      by_cases c2 : j = i
      · rw [c2, pk_us]; rfl
      · rw [pk_un c2]
end
section
theorem rr_mod3 {k : Nat} (hk : k < 100) : nI k - nI k / 3 * 3 = nI (k % 3) := pk_rem (d := 3) (by omega) (by omega) (by omega)
theorem rr_b56 : ∀ j, j < 3 → rr_bit (nI 56) (3 + j) = true := by decide +kernel
theorem rr_S56 : 56 ∈ rr_sets := by decide
theorem rr_l659 {post : Int32 → St0 → Prop} {J : Int32 → Int32 → Int32 → Int32 → Int32 → Int32 → Int32 → Int32 → Int32 → Int32 → Int32 → (Nat → Int32) → (Nat → Int32) → (Nat → Int32) → (Nat → Int32) → (Nat → Int32) → (Nat → Int32) → (Nat → Int32) → (Nat → Int32) → (Nat → Int32) → (Nat → Int32) → (Nat → Int32) → (Nat → Int32) → Prop}
    {u : St2} {mc ms kc ks k : Nat} {s low high : Int32} (hk : k < 8) (hL : rr_L 56 (nI 56) (rr_n3 6) (rr_v3 s 6) rr_z u) (h1 : rr_v3 s 6 k = low) (h2 : rr_v3 s 6 (k + 8) = high)
    (h : ∀ (u : St2), rr_L 56 (nI 56) (rr_n3 6) (rr_v3 s 6) rr_z u → J 1 (nI (k + 1)) u.1 u.2.1 u.2.2.1 u.2.2.2.1 u.2.2.2.2.1 u.2.2.2.2.2.1 u.2.2.2.2.2.2.1 u.2.2.2.2.2.2.2.1 u.2.2.2.2.2.2.2.2.1 u.2.2.2.2.2.2.2.2.2.1 u.2.2.2.2.2.2.2.2.2.2.1 u.2.2.2.2.2.2.2.2.2.2.2.1 u.2.2.2.2.2.2.2.2.2.2.2.2.1 u.2.2.2.2.2.2.2.2.2.2.2.2.2.1 u.2.2.2.2.2.2.2.2.2.2.2.2.2.2.1 u.2.2.2.2.2.2.2.2.2.2.2.2.2.2.2.1 u.2.2.2.2.2.2.2.2.2.2.2.2.2.2.2.2.1 u.2.2.2.2.2.2.2.2.2.2.2.2.2.2.2.2.2.1 u.2.2.2.2.2.2.2.2.2.2.2.2.2.2.2.2.2.2.1 u.2.2.2.2.2.2.2.2.2.2.2.2.2.2.2.2.2.2.2.1 u.2.2.2.2.2.2.2.2.2.2.2.2.2.2.2.2.2.2.2.2) : wL_lawOf_659 post mc ms J s 1 (nI k) low high kc ks u.1 u.2.1 u.2.2.1 u.2.2.2.1 u.2.2.2.2.1 u.2.2.2.2.2.1 u.2.2.2.2.2.2.1 u.2.2.2.2.2.2.2.1 u.2.2.2.2.2.2.2.2.1 u.2.2.2.2.2.2.2.2.2.1 u.2.2.2.2.2.2.2.2.2.2.1 u.2.2.2.2.2.2.2.2.2.2.2.1 u.2.2.2.2.2.2.2.2.2.2.2.2.1 u.2.2.2.2.2.2.2.2.2.2.2.2.2.1 u.2.2.2.2.2.2.2.2.2.2.2.2.2.2.1 u.2.2.2.2.2.2.2.2.2.2.2.2.2.2.2.1 u.2.2.2.2.2.2.2.2.2.2.2.2.2.2.2.2.1 u.2.2.2.2.2.2.2.2.2.2.2.2.2.2.2.2.2.1 u.2.2.2.2.2.2.2.2.2.2.2.2.2.2.2.2.2.2.1 u.2.2.2.2.2.2.2.2.2.2.2.2.2.2.2.2.2.2.2.1 u.2.2.2.2.2.2.2.2.2.2.2.2.2.2.2.2.2.2.2.2 := by
  have hW := rr_WM rr_S56
  have e1 : (3 : Int32) + (nI k - nI k / 3 * 3) = nI (3 + k % 3) := by rw [rr_mod3 (by omega), show (3 : Int32) = nI 3 from rfl, nI_add]
  have e2 : (3 : Int32) + ((nI k + 1) - (nI k + 1) / 3 * 3) = nI (3 + (k + 1) % 3) := by rw [nI_1, rr_mod3 (by omega), show (3 : Int32) = nI 3 from rfl, nI_add]
  have e3 : nI k + 8 = nI (k + 8) := by rw [show (8 : Int32) = nI 8 from rfl, nI_add]
  refine br_f (by decide) ⟨by decide, ?_⟩
  rw [e1, e2, e3]
  refine rr_get (u := (u.1, u.2.1, u.2.2.1, u.2.2.2.1, u.2.2.2.2.1, u.2.2.2.2.2.1, u.2.2.2.2.2.2.1, u.2.2.2.2.2.2.2.1, u.2.2.2.2.2.2.2.2.1, u.2.2.2.2.2.2.2.2.2.1, u.2.2.2.2.2.2.2.2.2.2.1, u.2.2.2.2.2.2.2.2.2.2.2.1, u.2.2.2.2.2.2.2.2.2.2.2.2.1, u.2.2.2.2.2.2.2.2.2.2.2.2.2.1, u.2.2.2.2.2.2.2.2.2.2.2.2.2.2.1, u.2.2.2.2.2.2.2.2.2.2.2.2.2.2.2.1, u.2.2.2.2.2.2.2.2.2.2.2.2.2.2.2.2.1, u.2.2.2.2.2.2.2.2.2.2.2.2.2.2.2.2.2.1, u.2.2.2.2.2.2.2.2.2.2.2.2.2.2.2.2.2.2.1, u.2.2.2.2.2.2.2.2.2.2.2.2.2.2.2.2.2.2.2.1, u.2.2.2.2.2.2.2.2.2.2.2.2.2.2.2.2.2.2.2.2)) hW hL (by omega) (by omega) (rr_b56 _ (by omega)) (fun y hy => ?_)
  obtain ⟨y_ms, y_ws, y_rs, y_an, y_ns, y_nv, y_nt, y_mg, y_ll, y_a1, y_a2, y_a3, y_a4, y_a5, y_a6, y_a7, y_a8, y_a9, y_a10, y_a11, y_a12⟩ := y
  refine br_t ((rr_num3 s 6 k).trans h1) ⟨by decide, ?_⟩
  refine rr_get hW hy (by omega) (by omega) (rr_b56 _ (by omega)) (fun x hx => ?_)
  obtain ⟨x_ms, x_ws, x_rs, x_an, x_ns, x_nv, x_nt, x_mg, x_ll, x_a1, x_a2, x_a3, x_a4, x_a5, x_a6, x_a7, x_a8, x_a9, x_a10, x_a11, x_a12⟩ := x
  exact br_t ((rr_num3 s 6 (k + 8)).trans h2) (nm_r (nI_1 k) (h (x_ms, x_ws, x_rs, x_an, x_ns, x_nv, x_nt, x_mg, x_ll, x_a1, x_a2, x_a3, x_a4, x_a5, x_a6, x_a7, x_a8, x_a9, x_a10, x_a11, x_a12) hx))
/-- the law's last checks -/
theorem rr_lend {post : Int32 → St0 → Prop} {u : St2} {mc ms kc ks t n : Nat} (ht : t < 4096) (hL : rr_L 56 (nI 56) (rr_n3 6) (rr_v3 (nI t) 6) rr_z u) (hp : post 1 ()) : wL_lawOf_610 post mc ms (nI t) kc ks (n + 1) 1 (nI 8) u.1 u.2.1 u.2.2.1 u.2.2.2.1 u.2.2.2.2.1 u.2.2.2.2.2.1 u.2.2.2.2.2.2.1 u.2.2.2.2.2.2.2.1 u.2.2.2.2.2.2.2.2.1 u.2.2.2.2.2.2.2.2.2.1 u.2.2.2.2.2.2.2.2.2.2.1 u.2.2.2.2.2.2.2.2.2.2.2.1 u.2.2.2.2.2.2.2.2.2.2.2.2.1 u.2.2.2.2.2.2.2.2.2.2.2.2.2.1 u.2.2.2.2.2.2.2.2.2.2.2.2.2.2.1 u.2.2.2.2.2.2.2.2.2.2.2.2.2.2.2.1 u.2.2.2.2.2.2.2.2.2.2.2.2.2.2.2.2.1 u.2.2.2.2.2.2.2.2.2.2.2.2.2.2.2.2.2.1 u.2.2.2.2.2.2.2.2.2.2.2.2.2.2.2.2.2.2.1 u.2.2.2.2.2.2.2.2.2.2.2.2.2.2.2.2.2.2.2.1 u.2.2.2.2.2.2.2.2.2.2.2.2.2.2.2.2.2.2.2.2 := by
  have hW := rr_WM rr_S56
  have N3 : ∀ j, j < 16 → ¬ rr_num (rr_n3 6) (rr_v3 (nI t) 6) rr_z j = (-200000) := fun j hj => by rw [rr_num3]; exact rr_v3_ne ht hj
  refine br_t (Int32.le_refl _) (br_f (by decide) (rr_size (u := (u.1, u.2.1, u.2.2.1, u.2.2.2.1, u.2.2.2.2.1, u.2.2.2.2.2.1, u.2.2.2.2.2.2.1, u.2.2.2.2.2.2.2.1, u.2.2.2.2.2.2.2.2.1, u.2.2.2.2.2.2.2.2.2.1, u.2.2.2.2.2.2.2.2.2.2.1, u.2.2.2.2.2.2.2.2.2.2.2.1, u.2.2.2.2.2.2.2.2.2.2.2.2.1, u.2.2.2.2.2.2.2.2.2.2.2.2.2.1, u.2.2.2.2.2.2.2.2.2.2.2.2.2.2.1, u.2.2.2.2.2.2.2.2.2.2.2.2.2.2.2.1, u.2.2.2.2.2.2.2.2.2.2.2.2.2.2.2.2.1, u.2.2.2.2.2.2.2.2.2.2.2.2.2.2.2.2.2.1, u.2.2.2.2.2.2.2.2.2.2.2.2.2.2.2.2.2.2.1, u.2.2.2.2.2.2.2.2.2.2.2.2.2.2.2.2.2.2.2.1, u.2.2.2.2.2.2.2.2.2.2.2.2.2.2.2.2.2.2.2.2)) hW hL (fun y hL => ?_)))
  obtain ⟨y_ms, y_ws, y_rs, y_an, y_ns, y_nv, y_nt, y_mg, y_ll, y_a1, y_a2, y_a3, y_a4, y_a5, y_a6, y_a7, y_a8, y_a9, y_a10, y_a11, y_a12⟩ := y
  refine br_t (by rw [rr_cnt_all 16 N3]; rfl) (rr_sumW hW hL (fun y hL => ?_))
  obtain ⟨y_ms, y_ws, y_rs, y_an, y_ns, y_nv, y_nt, y_mg, y_ll, y_a1, y_a2, y_a3, y_a4, y_a5, y_a6, y_a7, y_a8, y_a9, y_a10, y_a11, y_a12⟩ := y
  refine br_t ((rr_sum_ext 16 N3 (fun j _ => rr_num3 (nI t) 6 j)).trans (rr_sum16 (nI t))) (rr_nextKey (j := 0) hW hL (by decide) (by omega) (fun i hi => absurd hi (by omega)) (N3 0 (by omega)) (fun y hL => ?_))
  obtain ⟨y_ms, y_ws, y_rs, y_an, y_ns, y_nv, y_nt, y_mg, y_ll, y_a1, y_a2, y_a3, y_a4, y_a5, y_a6, y_a7, y_a8, y_a9, y_a10, y_a11, y_a12⟩ := y
  refine br_t rfl (rr_nextKeyN (br_t rfl ?_))
  refine rr_remove (c := 4) (k := 0) hW hL (by omega) (by omega) (rr_b56 1 (by omega)) (Nat.lt_trans (rr_n3_le 6 0) (by omega)) (fun y hL => ?_)
  obtain ⟨y_ms, y_ws, y_rs, y_an, y_ns, y_nv, y_nt, y_mg, y_ll, y_a1, y_a2, y_a3, y_a4, y_a5, y_a6, y_a7, y_a8, y_a9, y_a10, y_a11, y_a12⟩ := y
  refine br_t ?_ ?_
  · rw [rr_num3]
    exact Int32.add_zero _
  refine rr_remove (c := 4) (k := 0) hW hL (by omega) (by omega) (rr_b56 1 (by omega)) (by rw [rr_pn_s]; exact Nat.lt_of_le_of_lt (Nat.succ_le_of_lt (rr_n3_le 6 0)) (by omega)) (fun y hL => ?_)
  obtain ⟨y_ms, y_ws, y_rs, y_an, y_ns, y_nv, y_nt, y_mg, y_ll, y_a1, y_a2, y_a3, y_a4, y_a5, y_a6, y_a7, y_a8, y_a9, y_a10, y_a11, y_a12⟩ := y
  refine br_t (rr_numb (by rw [pk_us]; decide)) ?_
  refine rr_changes (k := 0) hW hL (by omega) (fun y hL => ?_)
  obtain ⟨y_ms, y_ws, y_rs, y_an, y_ns, y_nv, y_nt, y_mg, y_ll, y_a1, y_a2, y_a3, y_a4, y_a5, y_a6, y_a7, y_a8, y_a9, y_a10, y_a11, y_a12⟩ := y
  refine br_t (by rw [rr_pn_s, rr_pn_s]; rfl) ?_
  refine rr_nextKey (j := 1) hW hL (by decide) (by omega) (fun i hi => ?_) ?_ (fun y hL => ?_)
  · have hi0 : i = 0 := by omega
    subst hi0
    exact rr_numb (by rw [pk_us]; decide)
  · rw [rr_num1 (by rw [rr_pn_n _ (by omega), rr_pn_n _ (by omega)]; exact rr_n3_ne 6 1) (by rw [pk_un (by omega), pk_un (by omega)]; rfl), pk_un (by omega), pk_un (by omega)]
    exact rr_v3_ne ht (by omega)
  obtain ⟨y_ms, y_ws, y_rs, y_an, y_ns, y_nv, y_nt, y_mg, y_ll, y_a1, y_a2, y_a3, y_a4, y_a5, y_a6, y_a7, y_a8, y_a9, y_a10, y_a11, y_a12⟩ := y
  refine br_t rfl ?_
  refine br_f (by decide) (br_f (by decide) (br_t rfl ?_))
  refine br_f (by decide) (br_t (by decide) (br_t rfl (br_t rfl ?_)))
  refine br_f (by decide) (br_f (by decide) (br_f (by decide) (br_f (by decide) (br_f (by decide) (br_f (by decide) (br_f (by decide) (br_t (by decide) (br_t rfl (br_t rfl ?_)))))))))
  exact br_f (by decide) (br_t (by decide) (br_t rfl (br_t rfl hp)))
theorem rr_l610 {post : Int32 → St0 → Prop} {u : St2} {mc ms kc ks t : Nat} (ht : t < 4096) (hL : rr_L 56 (nI 56) (rr_n3 6) (rr_v3 (nI t) 6) rr_z u) (hp : post 1 ()) : ∃ n, wL_lawOf_610 post mc ms (nI t) kc ks n 1 0 u.1 u.2.1 u.2.2.1 u.2.2.2.1 u.2.2.2.2.1 u.2.2.2.2.2.1 u.2.2.2.2.2.2.1 u.2.2.2.2.2.2.2.1 u.2.2.2.2.2.2.2.2.1 u.2.2.2.2.2.2.2.2.2.1 u.2.2.2.2.2.2.2.2.2.2.1 u.2.2.2.2.2.2.2.2.2.2.2.1 u.2.2.2.2.2.2.2.2.2.2.2.2.1 u.2.2.2.2.2.2.2.2.2.2.2.2.2.1 u.2.2.2.2.2.2.2.2.2.2.2.2.2.2.1 u.2.2.2.2.2.2.2.2.2.2.2.2.2.2.2.1 u.2.2.2.2.2.2.2.2.2.2.2.2.2.2.2.2.1 u.2.2.2.2.2.2.2.2.2.2.2.2.2.2.2.2.2.1 u.2.2.2.2.2.2.2.2.2.2.2.2.2.2.2.2.2.2.1 u.2.2.2.2.2.2.2.2.2.2.2.2.2.2.2.2.2.2.2.1 u.2.2.2.2.2.2.2.2.2.2.2.2.2.2.2.2.2.2.2.2 := by
  refine pk_loop (fun n k (u : St2) => wL_lawOf_610 post mc ms (nI t) kc ks n 1 (nI k) u.1 u.2.1 u.2.2.1 u.2.2.2.1 u.2.2.2.2.1 u.2.2.2.2.2.1 u.2.2.2.2.2.2.1 u.2.2.2.2.2.2.2.1 u.2.2.2.2.2.2.2.2.1 u.2.2.2.2.2.2.2.2.2.1 u.2.2.2.2.2.2.2.2.2.2.1 u.2.2.2.2.2.2.2.2.2.2.2.1 u.2.2.2.2.2.2.2.2.2.2.2.2.1 u.2.2.2.2.2.2.2.2.2.2.2.2.2.1 u.2.2.2.2.2.2.2.2.2.2.2.2.2.2.1 u.2.2.2.2.2.2.2.2.2.2.2.2.2.2.2.1 u.2.2.2.2.2.2.2.2.2.2.2.2.2.2.2.2.1 u.2.2.2.2.2.2.2.2.2.2.2.2.2.2.2.2.2.1 u.2.2.2.2.2.2.2.2.2.2.2.2.2.2.2.2.2.2.1 u.2.2.2.2.2.2.2.2.2.2.2.2.2.2.2.2.2.2.2.1 u.2.2.2.2.2.2.2.2.2.2.2.2.2.2.2.2.2.2.2.2) (fun _ u => rr_L 56 (nI 56) (rr_n3 6) (rr_v3 (nI t) 6) rr_z u) 8 0 u (by omega) hL ?_ ?_
  · intro n u hL
    exact rr_lend ht hL hp
  · intro n k u hk hL hw
    refine br_f (nI_ge (b := 8) hk (by decide)) (pk_le 6 k (fun z => ?_) (fun z => ?_))
    · refine br_t (nI_le z (by omega)) (rr_l659 hk hL ?_ ?_ hw)
      · unfold rr_v3; rw [if_neg (by omega), if_pos (by omega)]
      · unfold rr_v3; rw [if_neg (by omega), if_neg (by omega), if_neg (by omega), Nat.add_sub_cancel]
    · refine br_f (nI_ge (b := 6) z (by decide)) (rr_l659 hk hL ?_ ?_ hw)
      · unfold rr_v3; rw [if_pos (by omega)]
      · unfold rr_v3; rw [if_neg (by omega), if_neg (by omega), if_pos (by omega)]
end
section
theorem rr_L_ms {M : Nat} {w : Int32} {n : Nat → Nat} {v b : Nat → Int32} {u : St2} (h : rr_L M w n v b u) : u.1 = nI M := by
  obtain ⟨T, H, hP, hG, hB, h2⟩ := h
  exact hG.1
theorem rr_L_ws {M : Nat} {w : Int32} {n : Nat → Nat} {v b : Nat → Int32} {u : St2} (h : rr_L M w n v b u) : u.2.1 = w := by
  obtain ⟨T, H, hP, hG, hB, h2⟩ := h
  exact hG.2.1
theorem rr_S63 : 63 ∈ rr_sets := by decide
theorem rr_S62 : 62 ∈ rr_sets := by decide
theorem rr_S60 : 60 ∈ rr_sets := by decide
theorem rr_l410 {post : Int32 → St0 → Prop} {J : Int32 → Int32 → Int32 → Int32 → Int32 → Int32 → Int32 → Int32 → Int32 → Int32 → Int32 → (Nat → Int32) → (Nat → Int32) → (Nat → Int32) → (Nat → Int32) → (Nat → Int32) → (Nat → Int32) → (Nat → Int32) → (Nat → Int32) → (Nat → Int32) → (Nat → Int32) → (Nat → Int32) → (Nat → Int32) → Prop}
    {u : St2} {mc ms kc ks i t : Nat} {x1 x2 x3 x13 x14 z0 : Int32} (hi : i < 6) (hL : rr_L 63 (nI 63) (rr_n3 (i + 1)) (rr_v3 (nI t) (i + 1)) rr_z u) (h13 : x13 = nI t + nI i) (h14 : x14 = nI t - nI i) (hz : z0 = 16)
    (h : ∀ (u : St2), rr_L 63 (nI 63) (rr_n3 (i + 1)) (rr_v3 (nI t) (i + 1)) rr_z u → J 1 (nI (i + 1)) u.1 u.2.1 u.2.2.1 u.2.2.2.1 u.2.2.2.2.1 u.2.2.2.2.2.1 u.2.2.2.2.2.2.1 u.2.2.2.2.2.2.2.1 u.2.2.2.2.2.2.2.2.1 u.2.2.2.2.2.2.2.2.2.1 u.2.2.2.2.2.2.2.2.2.2.1 u.2.2.2.2.2.2.2.2.2.2.2.1 u.2.2.2.2.2.2.2.2.2.2.2.2.1 u.2.2.2.2.2.2.2.2.2.2.2.2.2.1 u.2.2.2.2.2.2.2.2.2.2.2.2.2.2.1 u.2.2.2.2.2.2.2.2.2.2.2.2.2.2.2.1 u.2.2.2.2.2.2.2.2.2.2.2.2.2.2.2.2.1 u.2.2.2.2.2.2.2.2.2.2.2.2.2.2.2.2.2.1 u.2.2.2.2.2.2.2.2.2.2.2.2.2.2.2.2.2.2.1 u.2.2.2.2.2.2.2.2.2.2.2.2.2.2.2.2.2.2.2.1 u.2.2.2.2.2.2.2.2.2.2.2.2.2.2.2.2.2.2.2.2) : wL_lawOf_410 post mc ms J x1 x2 x3 (nI t) 1 (nI i) 1 0 (-300000) x13 x14 7 1 1 z0 kc ks u.1 u.2.1 u.2.2.1 u.2.2.2.1 u.2.2.2.2.1 u.2.2.2.2.2.1 u.2.2.2.2.2.2.1 u.2.2.2.2.2.2.2.1 u.2.2.2.2.2.2.2.2.1 u.2.2.2.2.2.2.2.2.2.1 u.2.2.2.2.2.2.2.2.2.2.1 u.2.2.2.2.2.2.2.2.2.2.2.1 u.2.2.2.2.2.2.2.2.2.2.2.2.1 u.2.2.2.2.2.2.2.2.2.2.2.2.2.1 u.2.2.2.2.2.2.2.2.2.2.2.2.2.2.1 u.2.2.2.2.2.2.2.2.2.2.2.2.2.2.2.1 u.2.2.2.2.2.2.2.2.2.2.2.2.2.2.2.2.1 u.2.2.2.2.2.2.2.2.2.2.2.2.2.2.2.2.2.1 u.2.2.2.2.2.2.2.2.2.2.2.2.2.2.2.2.2.2.1 u.2.2.2.2.2.2.2.2.2.2.2.2.2.2.2.2.2.2.2.1 u.2.2.2.2.2.2.2.2.2.2.2.2.2.2.2.2.2.2.2.2 := by
  have hW := rr_WM rr_S63
  have e8 : nI i + 8 = nI (i + 8) := by rw [show (8 : Int32) = nI 8 from rfl, nI_add]
  refine br_f (by decide) (br_f (by decide) (br_t rfl (br_t rfl (br_t h13 (br_t h14 (br_t rfl (br_f (by decide) (br_f (by decide) (br_t hz ?_)))))))))
  rw [e8]
  refine rr_changes (u := (u.1, u.2.1, u.2.2.1, u.2.2.2.1, u.2.2.2.2.1, u.2.2.2.2.2.1, u.2.2.2.2.2.2.1, u.2.2.2.2.2.2.2.1, u.2.2.2.2.2.2.2.2.1, u.2.2.2.2.2.2.2.2.2.1, u.2.2.2.2.2.2.2.2.2.2.1, u.2.2.2.2.2.2.2.2.2.2.2.1, u.2.2.2.2.2.2.2.2.2.2.2.2.1, u.2.2.2.2.2.2.2.2.2.2.2.2.2.1, u.2.2.2.2.2.2.2.2.2.2.2.2.2.2.1, u.2.2.2.2.2.2.2.2.2.2.2.2.2.2.2.1, u.2.2.2.2.2.2.2.2.2.2.2.2.2.2.2.2.1, u.2.2.2.2.2.2.2.2.2.2.2.2.2.2.2.2.2.1, u.2.2.2.2.2.2.2.2.2.2.2.2.2.2.2.2.2.2.1, u.2.2.2.2.2.2.2.2.2.2.2.2.2.2.2.2.2.2.2.1, u.2.2.2.2.2.2.2.2.2.2.2.2.2.2.2.2.2.2.2.2)) hW hL (by omega) (fun y hL => ?_)
  obtain ⟨y_ms, y_ws, y_rs, y_an, y_ns, y_nv, y_nt, y_mg, y_ll, y_a1, y_a2, y_a3, y_a4, y_a5, y_a6, y_a7, y_a8, y_a9, y_a10, y_a11, y_a12⟩ := y
  refine br_t (by unfold rr_n3; rw [if_pos (by omega)]; rfl) (rr_changes hW hL (by omega) (fun y hL => ?_))
  obtain ⟨y_ms, y_ws, y_rs, y_an, y_ns, y_nv, y_nt, y_mg, y_ll, y_a1, y_a2, y_a3, y_a4, y_a5, y_a6, y_a7, y_a8, y_a9, y_a10, y_a11, y_a12⟩ := y
  exact br_t (by unfold rr_n3; rw [if_neg (by omega), if_neg (by omega), if_pos (by omega)]; rfl) (nm_r (nI_1 i) (h (y_ms, y_ws, y_rs, y_an, y_ns, y_nv, y_nt, y_mg, y_ll, y_a1, y_a2, y_a3, y_a4, y_a5, y_a6, y_a7, y_a8, y_a9, y_a10, y_a11, y_a12) hL))
theorem rr_l368 {post : Int32 → St0 → Prop} {J : Int32 → Int32 → Int32 → Int32 → Int32 → Int32 → Int32 → Int32 → Int32 → Int32 → Int32 → (Nat → Int32) → (Nat → Int32) → (Nat → Int32) → (Nat → Int32) → (Nat → Int32) → (Nat → Int32) → (Nat → Int32) → (Nat → Int32) → (Nat → Int32) → (Nat → Int32) → (Nat → Int32) → (Nat → Int32) → Prop}
    {u : St2} {mc ms kc ks i m t : Nat} {x1 x2 x3 x13 x14 z0 : Int32} (ht : t < 4096) (hi : i < 6) (hm : m < 6) (hL : rr_L 63 (rr_dn m) (rr_n3 (i + 1)) (rr_v3 (nI t) (i + 1)) rr_z u) (h13 : x13 = nI t + nI i) (h14 : x14 = nI t - nI i)
    (h : ∀ (u : St2), rr_L 63 (nI 63) (rr_n3 (i + 1)) (rr_v3 (nI t) (i + 1)) rr_z u → J 1 (nI (i + 1)) u.1 u.2.1 u.2.2.1 u.2.2.2.1 u.2.2.2.2.1 u.2.2.2.2.2.1 u.2.2.2.2.2.2.1 u.2.2.2.2.2.2.2.1 u.2.2.2.2.2.2.2.2.1 u.2.2.2.2.2.2.2.2.2.1 u.2.2.2.2.2.2.2.2.2.2.1 u.2.2.2.2.2.2.2.2.2.2.2.1 u.2.2.2.2.2.2.2.2.2.2.2.2.1 u.2.2.2.2.2.2.2.2.2.2.2.2.2.1 u.2.2.2.2.2.2.2.2.2.2.2.2.2.2.1 u.2.2.2.2.2.2.2.2.2.2.2.2.2.2.2.1 u.2.2.2.2.2.2.2.2.2.2.2.2.2.2.2.2.1 u.2.2.2.2.2.2.2.2.2.2.2.2.2.2.2.2.2.1 u.2.2.2.2.2.2.2.2.2.2.2.2.2.2.2.2.2.2.1 u.2.2.2.2.2.2.2.2.2.2.2.2.2.2.2.2.2.2.2.1 u.2.2.2.2.2.2.2.2.2.2.2.2.2.2.2.2.2.2.2.2) : wL_lawOf_368 post mc ms J x1 x2 x3 (nI t) 1 (nI i) 1 0 (-300000) x13 x14 7 z0 (nI m) kc ks u.1 u.2.1 u.2.2.1 u.2.2.2.1 u.2.2.2.2.1 u.2.2.2.2.2.1 u.2.2.2.2.2.2.1 u.2.2.2.2.2.2.2.1 u.2.2.2.2.2.2.2.2.1 u.2.2.2.2.2.2.2.2.2.1 u.2.2.2.2.2.2.2.2.2.2.1 u.2.2.2.2.2.2.2.2.2.2.2.1 u.2.2.2.2.2.2.2.2.2.2.2.2.1 u.2.2.2.2.2.2.2.2.2.2.2.2.2.1 u.2.2.2.2.2.2.2.2.2.2.2.2.2.2.1 u.2.2.2.2.2.2.2.2.2.2.2.2.2.2.2.1 u.2.2.2.2.2.2.2.2.2.2.2.2.2.2.2.2.1 u.2.2.2.2.2.2.2.2.2.2.2.2.2.2.2.2.2.1 u.2.2.2.2.2.2.2.2.2.2.2.2.2.2.2.2.2.2.1 u.2.2.2.2.2.2.2.2.2.2.2.2.2.2.2.2.2.2.2.1 u.2.2.2.2.2.2.2.2.2.2.2.2.2.2.2.2.2.2.2.2 := by
  have hW := rr_WM rr_S63
  unfold wL_lawOf_368
  obtain ⟨j, hj, ej⟩ := pk_andE (x2 >>> (nI i &&& 31)) (m := 15) 4 (by decide)
  rw [ej]
  refine rr_upL (u := (u.1, u.2.1, u.2.2.1, u.2.2.2.1, u.2.2.2.2.1, u.2.2.2.2.2.1, u.2.2.2.2.2.2.1, u.2.2.2.2.2.2.2.1, u.2.2.2.2.2.2.2.2.1, u.2.2.2.2.2.2.2.2.2.1, u.2.2.2.2.2.2.2.2.2.2.1, u.2.2.2.2.2.2.2.2.2.2.2.1, u.2.2.2.2.2.2.2.2.2.2.2.2.1, u.2.2.2.2.2.2.2.2.2.2.2.2.2.1, u.2.2.2.2.2.2.2.2.2.2.2.2.2.2.1, u.2.2.2.2.2.2.2.2.2.2.2.2.2.2.2.1, u.2.2.2.2.2.2.2.2.2.2.2.2.2.2.2.2.1, u.2.2.2.2.2.2.2.2.2.2.2.2.2.2.2.2.2.1, u.2.2.2.2.2.2.2.2.2.2.2.2.2.2.2.2.2.2.1, u.2.2.2.2.2.2.2.2.2.2.2.2.2.2.2.2.2.2.2.1, u.2.2.2.2.2.2.2.2.2.2.2.2.2.2.2.2.2.2.2.2)) hm hL (fun y hL => ?_)
  obtain ⟨y_ms, y_ws, y_rs, y_an, y_ns, y_nv, y_nt, y_mg, y_ll, y_a1, y_a2, y_a3, y_a4, y_a5, y_a6, y_a7, y_a8, y_a9, y_a10, y_a11, y_a12⟩ := y
  refine rr_lose hL (by omega) (fun y hL => ?_)
  obtain ⟨y_ms, y_ws, y_rs, y_an, y_ns, y_nv, y_nt, y_mg, y_ll, y_a1, y_a2, y_a3, y_a4, y_a5, y_a6, y_a7, y_a8, y_a9, y_a10, y_a11, y_a12⟩ := y
  refine br_c (fun _ => rr_tidy hW hL (fun x hL => ?_)) (fun _ => rr_l410 (u := (y_ms, y_ws, y_rs, y_an, y_ns, y_nv, y_nt, y_mg, y_ll, y_a1, y_a2, y_a3, y_a4, y_a5, y_a6, y_a7, y_a8, y_a9, y_a10, y_a11, y_a12)) hi hL h13 h14 rfl h)
  obtain ⟨x_ms, x_ws, x_rs, x_an, x_ns, x_nv, x_nt, x_mg, x_ll, x_a1, x_a2, x_a3, x_a4, x_a5, x_a6, x_a7, x_a8, x_a9, x_a10, x_a11, x_a12⟩ := x
  refine rr_l410 (u := (x_ms, x_ws, x_rs, x_an, x_ns, x_nv, x_nt, x_mg, x_ll, x_a1, x_a2, x_a3, x_a4, x_a5, x_a6, x_a7, x_a8, x_a9, x_a10, x_a11, x_a12)) hi hL h13 h14 ?_ h
  rw [rr_cnt_all 16 (fun j hj => by rw [rr_num3]; exact rr_v3_ne ht hj)]
  rfl
/-- the third loop's end: three machines leave -/
theorem rr_l243e {post : Int32 → St0 → Prop} {u : St2} {mc ms kc ks t n : Nat} {x1 x2 x3 : Int32} (ht : t < 4096) (hL : rr_L 63 (nI 63) (rr_n3 6) (rr_v3 (nI t) 6) rr_z u) (hp : post 1 ()) : wL_lawOf_243 post mc ms x1 x2 x3 (nI t) kc ks (n + 1) 1 (nI 6) u.1 u.2.1 u.2.2.1 u.2.2.2.1 u.2.2.2.2.1 u.2.2.2.2.2.1 u.2.2.2.2.2.2.1 u.2.2.2.2.2.2.2.1 u.2.2.2.2.2.2.2.2.1 u.2.2.2.2.2.2.2.2.2.1 u.2.2.2.2.2.2.2.2.2.2.1 u.2.2.2.2.2.2.2.2.2.2.2.1 u.2.2.2.2.2.2.2.2.2.2.2.2.1 u.2.2.2.2.2.2.2.2.2.2.2.2.2.1 u.2.2.2.2.2.2.2.2.2.2.2.2.2.2.1 u.2.2.2.2.2.2.2.2.2.2.2.2.2.2.2.1 u.2.2.2.2.2.2.2.2.2.2.2.2.2.2.2.2.1 u.2.2.2.2.2.2.2.2.2.2.2.2.2.2.2.2.2.1 u.2.2.2.2.2.2.2.2.2.2.2.2.2.2.2.2.2.2.1 u.2.2.2.2.2.2.2.2.2.2.2.2.2.2.2.2.2.2.2.1 u.2.2.2.2.2.2.2.2.2.2.2.2.2.2.2.2.2.2.2.2 := by
  refine br_t (Int32.le_refl _) (rr_leave (u := (u.1, u.2.1, u.2.2.1, u.2.2.2.1, u.2.2.2.2.1, u.2.2.2.2.2.1, u.2.2.2.2.2.2.1, u.2.2.2.2.2.2.2.1, u.2.2.2.2.2.2.2.2.1, u.2.2.2.2.2.2.2.2.2.1, u.2.2.2.2.2.2.2.2.2.2.1, u.2.2.2.2.2.2.2.2.2.2.2.1, u.2.2.2.2.2.2.2.2.2.2.2.2.1, u.2.2.2.2.2.2.2.2.2.2.2.2.2.1, u.2.2.2.2.2.2.2.2.2.2.2.2.2.2.1, u.2.2.2.2.2.2.2.2.2.2.2.2.2.2.2.1, u.2.2.2.2.2.2.2.2.2.2.2.2.2.2.2.2.1, u.2.2.2.2.2.2.2.2.2.2.2.2.2.2.2.2.2.1, u.2.2.2.2.2.2.2.2.2.2.2.2.2.2.2.2.2.2.1, u.2.2.2.2.2.2.2.2.2.2.2.2.2.2.2.2.2.2.2.1, u.2.2.2.2.2.2.2.2.2.2.2.2.2.2.2.2.2.2.2.2)) (M := 63) (M' := 62) (m := 0) rr_S63 rr_S62 (by omega) (by decide) (by decide) (by decide) hL (fun y hL => ?_))
  obtain ⟨y_ms, y_ws, y_rs, y_an, y_ns, y_nv, y_nt, y_mg, y_ll, y_a1, y_a2, y_a3, y_a4, y_a5, y_a6, y_a7, y_a8, y_a9, y_a10, y_a11, y_a12⟩ := y
  refine rr_leave (M := 62) (M' := 60) (m := 1) rr_S62 rr_S60 (by omega) (by decide) (by decide) (by decide) hL (fun y hL => ?_)
  obtain ⟨y_ms, y_ws, y_rs, y_an, y_ns, y_nv, y_nt, y_mg, y_ll, y_a1, y_a2, y_a3, y_a4, y_a5, y_a6, y_a7, y_a8, y_a9, y_a10, y_a11, y_a12⟩ := y
  refine rr_leave (M := 60) (M' := 56) (m := 2) rr_S60 rr_S56 (by omega) (by decide) (by decide) (by decide) hL (fun y hL => ?_)
  have hms := rr_L_ms hL
  have hws := rr_L_ws hL
  obtain ⟨y_ms, y_ws, y_rs, y_an, y_ns, y_nv, y_nt, y_mg, y_ll, y_a1, y_a2, y_a3, y_a4, y_a5, y_a6, y_a7, y_a8, y_a9, y_a10, y_a11, y_a12⟩ := y
  have hms' : y_ms = nI 56 := hms
  have hws' : y_ws = nI 56 := hws
  refine rr_leaveR (m := 3) (by omega) (by show rr_ones y_ms = 3; rw [hms']; decide) ?_
  refine br_f (by decide) (br_t (by decide) (br_t (by decide) (br_t (by decide) (br_t rfl (br_t hms' ?_)))))
  exact rr_getR (c := 0) (k := 0) (by omega) (by omega) (by show rr_bit y_ws 0 = false; rw [hws']; decide) (br_t rfl (rr_l610 (u := (y_ms, y_ws, y_rs, y_an, y_ns, y_nv, y_nt, y_mg, y_ll, y_a1, y_a2, y_a3, y_a4, y_a5, y_a6, y_a7, y_a8, y_a9, y_a10, y_a11, y_a12)) ht hL hp))
theorem rr_l243 {post : Int32 → St0 → Prop} {u : St2} {mc ms kc ks t : Nat} {x1 x2 x3 : Int32} (ht : t < 4096) (hL : rr_L 63 (nI 63) (rr_n3 0) (rr_v3 (nI t) 0) rr_z u) (hp : post 1 ()) : ∃ n, wL_lawOf_243 post mc ms x1 x2 x3 (nI t) kc ks n 1 0 u.1 u.2.1 u.2.2.1 u.2.2.2.1 u.2.2.2.2.1 u.2.2.2.2.2.1 u.2.2.2.2.2.2.1 u.2.2.2.2.2.2.2.1 u.2.2.2.2.2.2.2.2.1 u.2.2.2.2.2.2.2.2.2.1 u.2.2.2.2.2.2.2.2.2.2.1 u.2.2.2.2.2.2.2.2.2.2.2.1 u.2.2.2.2.2.2.2.2.2.2.2.2.1 u.2.2.2.2.2.2.2.2.2.2.2.2.2.1 u.2.2.2.2.2.2.2.2.2.2.2.2.2.2.1 u.2.2.2.2.2.2.2.2.2.2.2.2.2.2.2.1 u.2.2.2.2.2.2.2.2.2.2.2.2.2.2.2.2.1 u.2.2.2.2.2.2.2.2.2.2.2.2.2.2.2.2.2.1 u.2.2.2.2.2.2.2.2.2.2.2.2.2.2.2.2.2.2.1 u.2.2.2.2.2.2.2.2.2.2.2.2.2.2.2.2.2.2.2.1 u.2.2.2.2.2.2.2.2.2.2.2.2.2.2.2.2.2.2.2.2 := by
  refine pk_loop (fun n i (u : St2) => wL_lawOf_243 post mc ms x1 x2 x3 (nI t) kc ks n 1 (nI i) u.1 u.2.1 u.2.2.1 u.2.2.2.1 u.2.2.2.2.1 u.2.2.2.2.2.1 u.2.2.2.2.2.2.1 u.2.2.2.2.2.2.2.1 u.2.2.2.2.2.2.2.2.1 u.2.2.2.2.2.2.2.2.2.1 u.2.2.2.2.2.2.2.2.2.2.1 u.2.2.2.2.2.2.2.2.2.2.2.1 u.2.2.2.2.2.2.2.2.2.2.2.2.1 u.2.2.2.2.2.2.2.2.2.2.2.2.2.1 u.2.2.2.2.2.2.2.2.2.2.2.2.2.2.1 u.2.2.2.2.2.2.2.2.2.2.2.2.2.2.2.1 u.2.2.2.2.2.2.2.2.2.2.2.2.2.2.2.2.1 u.2.2.2.2.2.2.2.2.2.2.2.2.2.2.2.2.2.1 u.2.2.2.2.2.2.2.2.2.2.2.2.2.2.2.2.2.2.1 u.2.2.2.2.2.2.2.2.2.2.2.2.2.2.2.2.2.2.2.1 u.2.2.2.2.2.2.2.2.2.2.2.2.2.2.2.2.2.2.2.2) (fun i u => rr_L 63 (nI 63) (rr_n3 i) (rr_v3 (nI t) i) rr_z u) 6 0 u (by omega) hL ?_ ?_
  · intro n u hL
    exact rr_l243e ht hL hp
  · intro n i u hi hL hw
    obtain ⟨o, ho, eo⟩ := pk_andE x3 (m := 255) 8 (by decide)
    have hm : (i + o) % 6 < 6 := Nat.mod_lt _ (by omega)
    generalize em : (i + o) % 6 = m at hm
    have hc : (m + 1) % 6 < 6 := Nat.mod_lt _ (by omega)
    have hcm : (m + 1) % 6 ≠ m := by omega
    generalize ec : (m + 1) % 6 = c at hc hcm
    have e1 : (nI i + (x3 &&& 255)) - (nI i + (x3 &&& 255)) / 6 * 6 = nI m := by rw [eo, nI_add, ← em]; exact pk_rem (d := 6) (by omega) (by omega) (by omega)
    have e2 : (nI m + 1) - (nI m + 1) / 6 * 6 = nI c := by rw [nI_1, ← ec]; exact pk_rem (d := 6) (by omega) (by omega) (by omega)
    have e8 : nI i + 8 = nI (i + 8) := by rw [show (8 : Int32) = nI 8 from rfl, nI_add]
    have hW := rr_Wd hm
    obtain ⟨d1, d2, d3, d4⟩ := rr_D1 m hm
    have dc := rr_D2 m hm c hc hcm
    have hv : rr_v3 (nI t) i i = nI t + nI i := by unfold rr_v3; rw [if_neg (by omega), if_pos (by omega)]
    have hv8 : rr_v3 (nI t) i (i + 8) = nI t - nI i := by unfold rr_v3; rw [if_neg (by omega), if_neg (by omega), if_neg (by omega), Nat.add_sub_cancel]
    have r2 := rr_r2 ht (show i < 16 by omega)
    refine br_f (nI_ge (b := 6) hi (by decide)) ?_
    rw [e8]
    refine ⟨by decide, nm_r e1 ⟨by decide, nm_r e2 (rr_down (u := (u.1, u.2.1, u.2.2.1, u.2.2.2.1, u.2.2.2.2.1, u.2.2.2.2.2.1, u.2.2.2.2.2.2.1, u.2.2.2.2.2.2.2.1, u.2.2.2.2.2.2.2.2.1, u.2.2.2.2.2.2.2.2.2.1, u.2.2.2.2.2.2.2.2.2.2.1, u.2.2.2.2.2.2.2.2.2.2.2.1, u.2.2.2.2.2.2.2.2.2.2.2.2.1, u.2.2.2.2.2.2.2.2.2.2.2.2.2.1, u.2.2.2.2.2.2.2.2.2.2.2.2.2.2.1, u.2.2.2.2.2.2.2.2.2.2.2.2.2.2.2.1, u.2.2.2.2.2.2.2.2.2.2.2.2.2.2.2.2.1, u.2.2.2.2.2.2.2.2.2.2.2.2.2.2.2.2.2.1, u.2.2.2.2.2.2.2.2.2.2.2.2.2.2.2.2.2.2.1, u.2.2.2.2.2.2.2.2.2.2.2.2.2.2.2.2.2.2.2.1, u.2.2.2.2.2.2.2.2.2.2.2.2.2.2.2.2.2.2.2.2)) hm hL (fun y hL => ?_))⟩⟩
    have hms := rr_L_ms hL
    have hws := rr_L_ws hL
    obtain ⟨y_ms, y_ws, y_rs, y_an, y_ns, y_nv, y_nt, y_mg, y_ll, y_a1, y_a2, y_a3, y_a4, y_a5, y_a6, y_a7, y_a8, y_a9, y_a10, y_a11, y_a12⟩ := y
    have hms' : y_ms = nI 63 := hms
    have hws' : y_ws = rr_dn m := hws
    refine rr_down0 hc (by show ¬ y_ws = y_ms; rw [hms', hws']; exact d4) ?_
    refine rr_getR (k := 0) hm (by omega) (by show rr_bit y_ws m = false; rw [hws']; exact d2) ?_
    refine rr_put hW hL hc (by omega) r2.1 r2.2.1 dc (Nat.lt_trans (rr_n3_le i i) (by omega)) (fun y hL => ?_)
    obtain ⟨y_ms, y_ws, y_rs, y_an, y_ns, y_nv, y_nt, y_mg, y_ll, y_a1, y_a2, y_a3, y_a4, y_a5, y_a6, y_a7, y_a8, y_a9, y_a10, y_a11, y_a12⟩ := y
    refine rr_remove hW hL hc (by omega) dc (by rw [rr_pn_n _ (by omega)]; exact Nat.lt_trans (rr_n3_le i (i + 8)) (by omega)) (fun y hL => ?_)
    obtain ⟨y_ms, y_ws, y_rs, y_an, y_ns, y_nv, y_nt, y_mg, y_ll, y_a1, y_a2, y_a3, y_a4, y_a5, y_a6, y_a7, y_a8, y_a9, y_a10, y_a11, y_a12⟩ := y
    refine rr_add hW hL hc (by omega) (by decide) (by decide) dc (by rw [rr_pn_s, rr_pn_n _ (by omega)]; exact Nat.lt_of_le_of_lt (Nat.succ_le_of_lt (rr_n3_le i (i + 8))) (by omega)) (rr_numb (by rw [pk_us]; decide)) (fun y hL => ?_)
    obtain ⟨y_ms, y_ws, y_rs, y_an, y_ns, y_nv, y_nt, y_mg, y_ll, y_a1, y_a2, y_a3, y_a4, y_a5, y_a6, y_a7, y_a8, y_a9, y_a10, y_a11, y_a12⟩ := y
    have hL' := rr_3s hi hL
    have h13 : rr_num (rr_n3 i) (rr_v3 (nI t) i) rr_z i = nI t + nI i := (rr_num3 (nI t) i i).trans hv
    have h14 : rr_num (rr_pn (rr_n3 i) i (rr_n3 i i + 1)) (upd (rr_v3 (nI t) i) i ((nI t + 100) + nI i)) (upd rr_z i 0) (i + 8) = nI t - nI i := by
      rw [rr_num1 (by rw [rr_pn_n _ (by omega)]; exact rr_n3_ne i (i + 8)) (by rw [pk_un (by omega)]; rfl), pk_un (by omega)]
      exact hv8
    exact br_c (fun _ => rr_l368 (u := (y_ms, y_ws, y_rs, y_an, y_ns, y_nv, y_nt, y_mg, y_ll, y_a1, y_a2, y_a3, y_a4, y_a5, y_a6, y_a7, y_a8, y_a9, y_a10, y_a11, y_a12)) ht hi hm hL' h13 h14 (fun u hL => hw u hL)) (fun _ => rr_l368 (u := (y_ms, y_ws, y_rs, y_an, y_ns, y_nv, y_nt, y_mg, y_ll, y_a1, y_a2, y_a3, y_a4, y_a5, y_a6, y_a7, y_a8, y_a9, y_a10, y_a11, y_a12)) ht hi hm hL' h13 h14 (fun u hL => hw u hL))
def rr_mj (m : Nat) : Nat := 2 ^ (3 + m) - 1
theorem rr_M1 : ∀ m, m < 3 → rr_mj m ∈ rr_sets ∧ rr_mj (m + 1) ∈ rr_sets ∧ rr_bit (nI (rr_mj m)) (3 + m) = false ∧ nI (rr_mj m) ||| ((1 : Int32) <<< (nI (3 + m) &&& 31)) = nI (rr_mj (m + 1)) ∧ rr_ones (nI (rr_mj (m + 1))) = 4 + nI m := by decide +kernel
theorem rr_l175 {post : Int32 → St0 → Prop} {u : St2} {mc ms kc ks t : Nat} {x1 x2 x3 : Int32} (ht : t < 4096) (hL : rr_L 7 (nI 7) (rr_n1 8) (rr_v1 (nI t) 8) rr_z u) (hp : post 1 ()) : ∃ n, wL_lawOf_175 post mc ms x1 x2 x3 (nI t) kc ks n 1 0 u.1 u.2.1 u.2.2.1 u.2.2.2.1 u.2.2.2.2.1 u.2.2.2.2.2.1 u.2.2.2.2.2.2.1 u.2.2.2.2.2.2.2.1 u.2.2.2.2.2.2.2.2.1 u.2.2.2.2.2.2.2.2.2.1 u.2.2.2.2.2.2.2.2.2.2.1 u.2.2.2.2.2.2.2.2.2.2.2.1 u.2.2.2.2.2.2.2.2.2.2.2.2.1 u.2.2.2.2.2.2.2.2.2.2.2.2.2.1 u.2.2.2.2.2.2.2.2.2.2.2.2.2.2.1 u.2.2.2.2.2.2.2.2.2.2.2.2.2.2.2.1 u.2.2.2.2.2.2.2.2.2.2.2.2.2.2.2.2.1 u.2.2.2.2.2.2.2.2.2.2.2.2.2.2.2.2.2.1 u.2.2.2.2.2.2.2.2.2.2.2.2.2.2.2.2.2.2.1 u.2.2.2.2.2.2.2.2.2.2.2.2.2.2.2.2.2.2.2.1 u.2.2.2.2.2.2.2.2.2.2.2.2.2.2.2.2.2.2.2.2 := by
  refine pk_loop (fun n m (u : St2) => wL_lawOf_175 post mc ms x1 x2 x3 (nI t) kc ks n 1 (nI m) u.1 u.2.1 u.2.2.1 u.2.2.2.1 u.2.2.2.2.1 u.2.2.2.2.2.1 u.2.2.2.2.2.2.1 u.2.2.2.2.2.2.2.1 u.2.2.2.2.2.2.2.2.1 u.2.2.2.2.2.2.2.2.2.1 u.2.2.2.2.2.2.2.2.2.2.1 u.2.2.2.2.2.2.2.2.2.2.2.1 u.2.2.2.2.2.2.2.2.2.2.2.2.1 u.2.2.2.2.2.2.2.2.2.2.2.2.2.1 u.2.2.2.2.2.2.2.2.2.2.2.2.2.2.1 u.2.2.2.2.2.2.2.2.2.2.2.2.2.2.2.1 u.2.2.2.2.2.2.2.2.2.2.2.2.2.2.2.2.1 u.2.2.2.2.2.2.2.2.2.2.2.2.2.2.2.2.2.1 u.2.2.2.2.2.2.2.2.2.2.2.2.2.2.2.2.2.2.1 u.2.2.2.2.2.2.2.2.2.2.2.2.2.2.2.2.2.2.2.1 u.2.2.2.2.2.2.2.2.2.2.2.2.2.2.2.2.2.2.2.2) (fun m u => rr_L (rr_mj m) (nI (rr_mj m)) (rr_n1 8) (rr_v1 (nI t) 8) rr_z u) 3 0 u (by omega) hL ?_ ?_
  · intro n u hL
    exact br_t (Int32.le_refl _) (rr_l243 ht (rr_13 (M := 63) hL) hp)
  · intro n m u hm hL hw
    obtain ⟨j, hj, ej⟩ := pk_andE (x2 >>> ((4 * nI m) &&& 31)) (m := 15) 4 (by decide)
    have e3 : 3 + nI m = nI (3 + m) := by rw [show (3 : Int32) = nI 3 from rfl, nI_add]
    obtain ⟨m1, m2, m3, m4, m5⟩ := rr_M1 m hm
    refine br_f (nI_ge (b := 3) hm (by decide)) ?_
    rw [ej, e3]
    refine rr_lose (u := (u.1, u.2.1, u.2.2.1, u.2.2.2.1, u.2.2.2.2.1, u.2.2.2.2.2.1, u.2.2.2.2.2.2.1, u.2.2.2.2.2.2.2.1, u.2.2.2.2.2.2.2.2.1, u.2.2.2.2.2.2.2.2.2.1, u.2.2.2.2.2.2.2.2.2.2.1, u.2.2.2.2.2.2.2.2.2.2.2.1, u.2.2.2.2.2.2.2.2.2.2.2.2.1, u.2.2.2.2.2.2.2.2.2.2.2.2.2.1, u.2.2.2.2.2.2.2.2.2.2.2.2.2.2.1, u.2.2.2.2.2.2.2.2.2.2.2.2.2.2.2.1, u.2.2.2.2.2.2.2.2.2.2.2.2.2.2.2.2.1, u.2.2.2.2.2.2.2.2.2.2.2.2.2.2.2.2.2.1, u.2.2.2.2.2.2.2.2.2.2.2.2.2.2.2.2.2.2.1, u.2.2.2.2.2.2.2.2.2.2.2.2.2.2.2.2.2.2.2.1, u.2.2.2.2.2.2.2.2.2.2.2.2.2.2.2.2.2.2.2.2)) hL (by omega) (fun y hL => ?_)
    obtain ⟨y_ms, y_ws, y_rs, y_an, y_ns, y_nv, y_nt, y_mg, y_ll, y_a1, y_a2, y_a3, y_a4, y_a5, y_a6, y_a7, y_a8, y_a9, y_a10, y_a11, y_a12⟩ := y
    refine rr_join m1 m2 (by omega) m3 m4 hL (fun y hL => ?_)
    obtain ⟨y_ms, y_ws, y_rs, y_an, y_ns, y_nv, y_nt, y_mg, y_ll, y_a1, y_a2, y_a3, y_a4, y_a5, y_a6, y_a7, y_a8, y_a9, y_a10, y_a11, y_a12⟩ := y
    exact br_f (by decide) (br_f (by decide) (br_t m5 (nm_r (nI_1 m) (hw (y_ms, y_ws, y_rs, y_an, y_ns, y_nv, y_nt, y_mg, y_ll, y_a1, y_a2, y_a3, y_a4, y_a5, y_a6, y_a7, y_a8, y_a9, y_a10, y_a11, y_a12) hL))))
theorem rr_b7 : ∀ j, j < 3 → rr_bit (nI 7) j = true := by decide +kernel
theorem rr_S7 : 7 ∈ rr_sets := by decide
theorem rr_n1_le (k j : Nat) : rr_n1 k j < 90 := by
  unfold rr_n1
  by_cases c1 : j < k
  · rw [if_pos c1]; decide
  · rw [if_neg c1]
    by_cases c2 : 8 ≤ j ∧ j < 8 + k
    · rw [if_pos c2]; decide
    · rw [if_neg c2]; decide
theorem rr_l89 {post : Int32 → St0 → Prop} {u : St2} {mc ms kc ks t : Nat} {x1 x2 x3 : Int32} (ht : t < 4096) (hL : rr_L 7 (nI 7) (rr_n1 0) (rr_v1 (nI t) 0) rr_z u) (hp : post 1 ()) : ∃ n, wL_lawOf_89 post mc ms x1 x2 x3 (nI t) kc ks n 1 0 u.1 u.2.1 u.2.2.1 u.2.2.2.1 u.2.2.2.2.1 u.2.2.2.2.2.1 u.2.2.2.2.2.2.1 u.2.2.2.2.2.2.2.1 u.2.2.2.2.2.2.2.2.1 u.2.2.2.2.2.2.2.2.2.1 u.2.2.2.2.2.2.2.2.2.2.1 u.2.2.2.2.2.2.2.2.2.2.2.1 u.2.2.2.2.2.2.2.2.2.2.2.2.1 u.2.2.2.2.2.2.2.2.2.2.2.2.2.1 u.2.2.2.2.2.2.2.2.2.2.2.2.2.2.1 u.2.2.2.2.2.2.2.2.2.2.2.2.2.2.2.1 u.2.2.2.2.2.2.2.2.2.2.2.2.2.2.2.2.1 u.2.2.2.2.2.2.2.2.2.2.2.2.2.2.2.2.2.1 u.2.2.2.2.2.2.2.2.2.2.2.2.2.2.2.2.2.2.1 u.2.2.2.2.2.2.2.2.2.2.2.2.2.2.2.2.2.2.2.1 u.2.2.2.2.2.2.2.2.2.2.2.2.2.2.2.2.2.2.2.2 := by
  refine pk_loop (fun n k (u : St2) => wL_lawOf_89 post mc ms x1 x2 x3 (nI t) kc ks n 1 (nI k) u.1 u.2.1 u.2.2.1 u.2.2.2.1 u.2.2.2.2.1 u.2.2.2.2.2.1 u.2.2.2.2.2.2.1 u.2.2.2.2.2.2.2.1 u.2.2.2.2.2.2.2.2.1 u.2.2.2.2.2.2.2.2.2.1 u.2.2.2.2.2.2.2.2.2.2.1 u.2.2.2.2.2.2.2.2.2.2.2.1 u.2.2.2.2.2.2.2.2.2.2.2.2.1 u.2.2.2.2.2.2.2.2.2.2.2.2.2.1 u.2.2.2.2.2.2.2.2.2.2.2.2.2.2.1 u.2.2.2.2.2.2.2.2.2.2.2.2.2.2.2.1 u.2.2.2.2.2.2.2.2.2.2.2.2.2.2.2.2.1 u.2.2.2.2.2.2.2.2.2.2.2.2.2.2.2.2.2.1 u.2.2.2.2.2.2.2.2.2.2.2.2.2.2.2.2.2.2.1 u.2.2.2.2.2.2.2.2.2.2.2.2.2.2.2.2.2.2.2.1 u.2.2.2.2.2.2.2.2.2.2.2.2.2.2.2.2.2.2.2.2) (fun k u => rr_L 7 (nI 7) (rr_n1 k) (rr_v1 (nI t) k) rr_z u) 8 0 u (by omega) hL ?_ ?_
  · intro n u hL
    exact br_t (Int32.le_refl _) (rr_l175 ht hL hp)
  · intro n k u hk hL hw
    have hW := rr_WM rr_S7
    have e1 : nI k - nI k / 3 * 3 = nI (k % 3) := rr_mod3 (by omega)
    have e2 : (nI k + 1) - (nI k + 1) / 3 * 3 = nI ((k + 1) % 3) := by rw [nI_1]; exact rr_mod3 (by omega)
    have e8 : nI k + 8 = nI (k + 8) := by rw [show (8 : Int32) = nI 8 from rfl, nI_add]
    have r1 := rr_r1 ht (show k < 16 by omega)
    have r3 := rr_r3 ht (show k < 16 by omega)
    refine br_f (nI_ge (b := 8) hk (by decide)) ⟨by decide, ?_⟩
    rw [e1, e2, e8]
    refine rr_put (u := (u.1, u.2.1, u.2.2.1, u.2.2.2.1, u.2.2.2.2.1, u.2.2.2.2.2.1, u.2.2.2.2.2.2.1, u.2.2.2.2.2.2.2.1, u.2.2.2.2.2.2.2.2.1, u.2.2.2.2.2.2.2.2.2.1, u.2.2.2.2.2.2.2.2.2.2.1, u.2.2.2.2.2.2.2.2.2.2.2.1, u.2.2.2.2.2.2.2.2.2.2.2.2.1, u.2.2.2.2.2.2.2.2.2.2.2.2.2.1, u.2.2.2.2.2.2.2.2.2.2.2.2.2.2.1, u.2.2.2.2.2.2.2.2.2.2.2.2.2.2.2.1, u.2.2.2.2.2.2.2.2.2.2.2.2.2.2.2.2.1, u.2.2.2.2.2.2.2.2.2.2.2.2.2.2.2.2.2.1, u.2.2.2.2.2.2.2.2.2.2.2.2.2.2.2.2.2.2.1, u.2.2.2.2.2.2.2.2.2.2.2.2.2.2.2.2.2.2.2.1, u.2.2.2.2.2.2.2.2.2.2.2.2.2.2.2.2.2.2.2.2)) hW hL (by omega) (by omega) r1.1 r1.2.1 (rr_b7 _ (by omega)) (Nat.lt_trans (rr_n1_le k k) (by omega)) (fun y hL => ?_)
    obtain ⟨y_ms, y_ws, y_rs, y_an, y_ns, y_nv, y_nt, y_mg, y_ll, y_a1, y_a2, y_a3, y_a4, y_a5, y_a6, y_a7, y_a8, y_a9, y_a10, y_a11, y_a12⟩ := y
    refine ⟨by decide, rr_add hW hL (by omega) (by omega) r3.1 r3.2.1 (rr_b7 _ (by omega)) (by rw [rr_pn_n _ (by omega)]; exact Nat.lt_trans (rr_n1_le k (k + 8)) (by omega)) (rr_num0 ?_) (fun y hL => ?_)⟩
    · rw [rr_pn_n _ (by omega)]
      unfold rr_n1
      rw [if_neg (by omega), if_neg (by omega)]
    · obtain ⟨y_ms, y_ws, y_rs, y_an, y_ns, y_nv, y_nt, y_mg, y_ll, y_a1, y_a2, y_a3, y_a4, y_a5, y_a6, y_a7, y_a8, y_a9, y_a10, y_a11, y_a12⟩ := y
      refine br_f (by decide) (br_t (rr_num0 ?_) (br_t rfl (nm_r (nI_1 k) (hw (y_ms, y_ws, y_rs, y_an, y_ns, y_nv, y_nt, y_mg, y_ll, y_a1, y_a2, y_a3, y_a4, y_a5, y_a6, y_a7, y_a8, y_a9, y_a10, y_a11, y_a12) (rr_1s hk hL)))))
      unfold rr_n1
      rw [if_neg (by omega), if_neg (by omega)]
theorem rr_lawOf {post : Int32 → St0 → Prop} {p0 p1 p2 p3 : Int32} (hp : post 1 ()) : wpL_lawOf post 13 2181 () p0 p1 p2 p3 := by
  obtain ⟨t, ht, et⟩ := pk_andE p0 (m := 4095) 12 (by decide)
  refine ⟨by omega, by omega, 12, 2160, by omega, by omega, rr_init (fun y hL => ?_)⟩
  have hms := rr_L_ms hL
  have hws := rr_L_ws hL
  obtain ⟨y_ms, y_ws, y_rs, y_an, y_ns, y_nv, y_nt, y_mg, y_ll, y_a1, y_a2, y_a3, y_a4, y_a5, y_a6, y_a7, y_a8, y_a9, y_a10, y_a11, y_a12⟩ := y
  refine nm_r et ?_
  refine br_t hms (br_t hws ?_)
  refine rr_size (rr_WM rr_S7) hL (fun y hL => ?_)
  have hms := rr_L_ms hL
  have hws := rr_L_ws hL
  obtain ⟨y_ms, y_ws, y_rs, y_an, y_ns, y_nv, y_nt, y_mg, y_ll, y_a1, y_a2, y_a3, y_a4, y_a5, y_a6, y_a7, y_a8, y_a9, y_a10, y_a11, y_a12⟩ := y
  have hms' : y_ms = nI 7 := hms
  have hws' : y_ws = nI 7 := hws
  refine br_t (by rw [rr_cnt_none 16 (fun j _ => rr_num0 rfl)]; rfl) ?_
  refine rr_leaveR (m := 1) (by omega) (by show rr_ones y_ms = 3; rw [hms']; decide) (br_t rfl ?_)
  refine rr_putR (c := 3) (k := 0) (by omega) (by omega) (by decide) (by decide) (by show rr_bit y_ws 3 = false; rw [hws']; decide) (br_t rfl ?_)
  refine rr_joinR (m := 2) (by omega) (by show rr_bit y_ms 2 = true; rw [hms']; decide) (br_t rfl ?_)
  refine rr_l89 (u := (y_ms, y_ws, y_rs, y_an, y_ns, y_nv, y_nt, y_mg, y_ll, y_a1, y_a2, y_a3, y_a4, y_a5, y_a6, y_a7, y_a8, y_a9, y_a10, y_a11, y_a12)) (by omega) (rr_L_ext hL (fun k _ => ?_) (fun k _ => ?_) (fun k _ => rfl)) hp
  · unfold rr_n1
    rw [if_neg (by omega), if_neg (by omega)]
  · unfold rr_v1
    rw [if_neg (by omega), if_neg (by omega)]
theorem rr_cell {post : Int32 → Prop} {L j : Nat} {xs : Nat → Int32} (hL : L ≤ 4) (hj : j < 4) (h : ∀ r, post r) : wpL_cellAt post L xs () (nI j) := by
  refine br_c (fun _ => h _) (fun z => ⟨?_, h _⟩)
  rcases Nat.lt_or_ge j L with y | y
  · exact vp_in_nI y (by omega)
  · exact absurd (nI_le y (by omega)) z
end
section
theorem i_vc (xs : Nat → Int32) (L : Nat) (hL : L ≤ 4) : wpL_law (fun r => r = 1) L xs := by
  unfold wpL_law
  refine rr_cell (j := 0) hL (by omega) (fun _ => rr_cell (j := 1) hL (by omega) (fun _ => rr_cell (j := 2) hL (by omega) (fun _ => rr_cell (j := 3) hL (by omega) (fun _ => ?_))))
  exact ⟨13, 2181, by omega, by omega, rr_lawOf rfl⟩
end
