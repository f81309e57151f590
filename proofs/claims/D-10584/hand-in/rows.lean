section
/-- the triangle numbers: where the phrase number i of a text of one letter begins -/
def lz_t : Nat → Nat
  | 0 => 0
  | n + 1 => lz_t n + (n + 1)
/-- the phrase that is the letter A, k times -/
def lz_f (A k : Nat) : Nat := if k ≤ 1 then A else k + 2
theorem lz_t_s (n : Nat) : lz_t (n + 1) = lz_t n + (n + 1) := rfl
theorem lz_t_le {a b : Nat} (h : a ≤ b) : lz_t a ≤ lz_t b := by
  induction h with
  | refl => exact Nat.le_refl _
  | step _ ih => exact Nat.le_trans ih (Nat.le_add_right _ _)
theorem lz_t15 {C : Nat} (h : lz_t C < 120) : C ≤ 14 := by
  rcases Nat.lt_or_ge C 15 with z | z
  · omega
  · have h2 : lz_t 15 ≤ lz_t C := lz_t_le z
    have e : lz_t 15 = 120 := rfl
    omega
theorem lz_f1 (A : Nat) : lz_f A 1 = A := if_pos (by decide)
theorem lz_f2 (A k : Nat) : lz_f A (k + 2) = 4 + k := by
  unfold lz_f
  rw [if_neg (by omega)]
  omega
theorem lz_f_lt {A k C : Nat} (hA : A < 4) (h : k ≤ C + 1) : lz_f A k < 4 + C := by
  unfold lz_f
  by_cases e : k ≤ 1
  · rw [if_pos e]; omega
  · rw [if_neg e]; omega
theorem lz_f_inj {A k j : Nat} (hA : A < 4) (h1 : 1 ≤ k) (h2 : 1 ≤ j) (e : lz_f A k = lz_f A j) : k = j := by
  unfold lz_f at e
  by_cases z : k ≤ 1
  · by_cases w : j ≤ 1
    · omega
    · rw [if_pos z, if_neg w] at e; omega
  · by_cases w : j ≤ 1
    · rw [if_neg z, if_pos w] at e; omega
    · rw [if_neg z, if_neg w] at e; omega
theorem lz_ix (p l : Nat) : nI p * 4 + nI l = nI (p * 4 + l) := by
  rw [show (4 : Int32) = nI 4 from rfl, pk_mul, nI_add]
theorem lz_cl {p l : Nat} (h : p * 4 + l < 2 ^ 31) : (nI p * 4 + nI l).toNatClampNeg = p * 4 + l := pk_cl _ (lz_ix p l) h
theorem lz_ix11 (p q : Nat) : nI p * 11 + nI q = nI (p * 11 + q) := by
  rw [show (11 : Int32) = nI 11 from rfl, pk_mul, nI_add]
theorem lz_cl11 {p q : Nat} (h : p * 11 + q < 2 ^ 31) : (nI p * 11 + nI q).toNatClampNeg = p * 11 + q := pk_cl _ (lz_ix11 p q) h
/-- the dictionary and the codes of the text 'C codes, then the phrase under way' over the one letter A -/
def lz_D (A C : Nat) (a1 a2 a3 a4 a5 a6 a7 : Nat → Int32) : Prop :=
  (∀ l, l < 4 → a1 l = -1 ∧ a2 l = nI l) ∧
  (∀ k, 1 ≤ k → k ≤ C → a1 (lz_f A (k + 1)) = nI (lz_f A k)) ∧
  (∀ k, 1 ≤ k → k ≤ C + 1 → a2 (lz_f A k) = nI A ∧ a3 (lz_f A k) = nI k ∧ ∀ m, m < 4 → a5 (lz_f A k * 4 + m) = nI (if m = A then k else 0)) ∧
  (∀ k, 1 ≤ k → k ≤ C → a4 (lz_f A k * 4 + A) = nI (lz_f A (k + 1))) ∧
  a4 (lz_f A (C + 1) * 4 + A) = -1 ∧
  (∀ i, i < C → a6 i = nI (lz_f A (i + 1))) ∧
  (∀ i, i ≤ C → a7 i = nI (lz_t i))
/-- makePhrase's loop behind i letters: the rows of p are written up to i, all else is as it was -/
def lz_mpI (p : Nat) (a4 a5 b : Nat → Int32) (i : Nat) (s : (Nat → Int32) × (Nat → Int32)) : Prop :=
  (∀ j, (j < p * 4 ∨ p * 4 + i ≤ j) → s.1 j = a4 j ∧ s.2 j = a5 j) ∧ (∀ m, m < i → s.1 (p * 4 + m) = -1 ∧ s.2 (p * 4 + m) = b m)
/-- what makePhrase takes over from the parent: its size and one more, its tally -/
def lz_up (x2 : Int32) (p : Nat) (a3 a5 : Nat → Int32) (z3 : Int32) (b : Nat → Int32) : Prop :=
  (x2 = -1 ∧ z3 = 1 ∧ ∀ m, m < 4 → b m = 0) ∨ (∃ u, u < 128 ∧ u ≠ p ∧ x2 = nI u ∧ z3 = a3 u + 1 ∧ ∀ m, m < 4 → b m = a5 (u * 4 + m))
theorem lz_mpI_s {p i : Nat} {a4 a5 b : Nat → Int32} {s : (Nat → Int32) × (Nat → Int32)} {x : Int32} (h : lz_mpI p a4 a5 b i s) (hx : x = b i) :
    lz_mpI p a4 a5 b (i + 1) (upd s.1 (p * 4 + i) (-1), upd s.2 (p * 4 + i) x) := by
  obtain ⟨h1, h2⟩ := h
  refine ⟨fun j hj => ?_, fun m hm => ?_⟩
  · have e : j ≠ p * 4 + i := by omega
    show upd s.1 (p * 4 + i) (-1) j = a4 j ∧ upd s.2 (p * 4 + i) x j = a5 j
    rw [pk_un e, pk_un e]
    exact h1 j (by omega)
  · show upd s.1 (p * 4 + i) (-1) (p * 4 + m) = -1 ∧ upd s.2 (p * 4 + i) x (p * 4 + m) = b m
    by_cases e : m = i
    · rw [e, pk_us, pk_us]
      exact ⟨rfl, hx⟩
    · rw [pk_un (by omega), pk_un (by omega)]
      exact h2 m (by omega)
/-- the letters' rows behind start's loop -/
def lz_ini (n : Nat) (a1 a2 a3 a4 a5 : Nat → Int32) : Prop :=
  ∀ l, l < n → a1 l = -1 ∧ a2 l = nI l ∧ a3 l = 1 ∧ ∀ m, m < 4 → a4 (l * 4 + m) = -1 ∧ a5 (l * 4 + m) = nI (if m = l then 1 else 0)
theorem lz_ini_s {n : Nat} {a1 a2 a3 a4 a5 c4 c5 b : Nat → Int32} (hn : n < 4) (h : lz_ini n a1 a2 a3 a4 a5) (hI : lz_mpI n a4 a5 b 4 (c4, c5)) (hb : ∀ m, m < 4 → b m = 0) :
    lz_ini (n + 1) (upd a1 n (-1)) (upd a2 n (nI n)) (upd a3 n 1) c4 (upd c5 (n * 4 + n) (c5 (n * 4 + n) + 1)) := by
  obtain ⟨h1, h2⟩ := hI
  dsimp only at h1 h2
  intro l hl
  by_cases e : l = n
  · subst e
    rw [pk_us, pk_us, pk_us]
    refine ⟨rfl, rfl, rfl, fun m hm => ⟨(h2 m hm).1, ?_⟩⟩
    by_cases em : m = l
    · subst em
      rw [pk_us, if_pos rfl, (h2 m hm).2, hb m hm]
      rfl
    · rw [pk_un (by omega), if_neg em, (h2 m hm).2, hb m hm]
      rfl
  · obtain ⟨k1, k2, k3, k4⟩ := h l (by omega)
    rw [pk_un e, pk_un e, pk_un e]
    refine ⟨k1, k2, k3, fun m hm => ?_⟩
    rw [pk_un (by omega), (h1 (l * 4 + m) (by omega)).1, (h1 (l * 4 + m) (by omega)).2]
    exact k4 m hm
theorem lz_D_0 {A : Nat} {a1 a2 a3 a4 a5 a6 a7 : Nat → Int32} (hA : A < 4) (h : lz_ini 4 a1 a2 a3 a4 a5) (h7 : a7 0 = 0) : lz_D A 0 a1 a2 a3 a4 a5 a6 a7 := by
  refine ⟨fun l hl => ⟨(h l hl).1, (h l hl).2.1⟩, fun k k1 k2 => absurd k2 (by omega), fun k k1 k2 => ?_, fun k k1 k2 => absurd k2 (by omega), ?_, fun i hi => absurd hi (by omega), fun i hi => ?_⟩
  · have e : k = 1 := by omega
    subst e
    rw [lz_f1]
    exact ⟨(h A hA).2.1, (h A hA).2.2.1, fun m hm => ((h A hA).2.2.2 m hm).2⟩
  · rw [lz_f1]
    exact ((h A hA).2.2.2 A hA).1
  · have e : i = 0 := by omega
    subst e
    exact h7
/-- one more phrase, one more code -/
theorem lz_D_new {A C : Nat} {a1 a2 a3 a4 a5 a6 a7 c4 c5 b : Nat → Int32} (hA : A < 4) (hD : lz_D A C a1 a2 a3 a4 a5 a6 a7)
    (hI : lz_mpI (4 + C) (upd a4 (lz_f A (C + 1) * 4 + A) (nI (4 + C))) a5 b 4 (c4, c5)) (hb : ∀ m, m < 4 → b m = a5 (lz_f A (C + 1) * 4 + m)) :
    lz_D A (C + 1) (upd a1 (4 + C) (nI (lz_f A (C + 1)))) (upd a2 (4 + C) (nI A)) (upd a3 (4 + C) (a3 (lz_f A (C + 1)) + 1)) c4 (upd c5 ((4 + C) * 4 + A) (c5 ((4 + C) * 4 + A) + 1)) (upd a6 C (nI (lz_f A (C + 1)))) (upd a7 (C + 1) (nI (lz_t C + (C + 1)))) := by
  obtain ⟨d1, d2, d3, d4, d5, d6, d7⟩ := hD
  obtain ⟨h1, h2⟩ := hI
  dsimp only at h1 h2
  have new : lz_f A (C + 1 + 1) = 4 + C := lz_f2 A C
  have old : ∀ k, k ≤ C + 1 → lz_f A k < 4 + C := fun k hk => lz_f_lt hA hk
  refine ⟨fun l hl => ?_, fun k k1 k2 => ?_, fun k k1 k2 => ?_, fun k k1 k2 => ?_, ?_, fun i hi => ?_, fun i hi => ?_⟩
  · rw [pk_un (by omega), pk_un (by omega)]
    exact d1 l hl
  · by_cases e : k = C + 1
    · subst e
      rw [new, pk_us]
    · have o := old (k + 1) (by omega)
      rw [pk_un (by omega)]
      exact d2 k k1 (by omega)
  · by_cases e : k = C + 1 + 1
    · subst e
      obtain ⟨_, q3, q5⟩ := d3 (C + 1) (by omega) (by omega)
      rw [new, pk_us, pk_us, q3, nI_1]
      refine ⟨rfl, rfl, fun m hm => ?_⟩
      have hm2 := (h2 m hm).2
      rw [hb m hm, q5 m hm] at hm2
      by_cases em : m = A
      · subst em
        rw [pk_us, if_pos rfl]
        rw [if_pos rfl] at hm2
        rw [show c5 ((4 + C) * 4 + m) = nI (C + 1) from hm2, nI_1]
      · rw [pk_un (by omega), if_neg em]
        rw [if_neg em] at hm2
        exact hm2
    · have o := old k (by omega)
      obtain ⟨q2, q3, q5⟩ := d3 k k1 (by omega)
      rw [pk_un (by omega), pk_un (by omega)]
      refine ⟨q2, q3, fun m hm => ?_⟩
      rw [pk_un (by omega), show c5 (lz_f A k * 4 + m) = a5 (lz_f A k * 4 + m) from (h1 _ (by omega)).2]
      exact q5 m hm
  · have o := old k (by omega)
    have o2 := old (C + 1) (by omega)
    rw [show c4 (lz_f A k * 4 + A) = upd a4 (lz_f A (C + 1) * 4 + A) (nI (4 + C)) (lz_f A k * 4 + A) from (h1 _ (by omega)).1]
    by_cases e : k = C + 1
    · subst e
      rw [pk_us, new]
    · have ne : lz_f A k ≠ lz_f A (C + 1) := fun z => e (lz_f_inj hA k1 (by omega) z)
      rw [pk_un (by omega)]
      exact d4 k k1 (by omega)
  · rw [new]
    exact (h2 A hA).1
  · by_cases e : i = C
    · subst e
      rw [pk_us]
    · rw [pk_un e]
      exact d6 i (by omega)
  · by_cases e : i = C + 1
    · subst e
      rw [pk_us, lz_t_s]
    · rw [pk_un e]
      exact d7 i (by omega)
end
section
theorem lz_mp39 {post : St2 → Prop} {p l : Nat} {x2 z3 : Int32} {g0 g1 g2 g3 g4 g5 : Int32} {a0 a1 a2 a3 a4 a5 a6 a7 a8 a9 a10 a11 b : Nat → Int32} (hp : p < 128) (hl : l < 4) (hu : lz_up x2 p a0 a5 z3 b)
    (H : ∀ c4 c5, lz_mpI p a4 a5 b 4 (c4, c5) → post (g0, g1, g2, g3, g4, g5, a1, a2, a3, c4, upd c5 (p * 4 + l) (c5 (p * 4 + l) + 1), a6, a7, a8, a9, a10, a11)) :
    ∃ n, wX_makePhrase_39 post (nI p) x2 (nI l) g0 g1 g2 g3 g4 g5 n 0 a1 a2 a3 a4 a5 a6 a7 a8 a9 a10 a11 := by
  refine pk_loop (fun n i s => wX_makePhrase_39 post (nI p) x2 (nI l) g0 g1 g2 g3 g4 g5 n (nI i) a1 a2 a3 s.1 s.2 a6 a7 a8 a9 a10 a11) (lz_mpI p a4 a5 b) 4 0 (a4, a5) (by omega) ⟨fun j _ => ⟨rfl, rfl⟩, fun m h => absurd h (by omega)⟩ (fun n s h => ?_) (fun n i s hi h hw => ?_)
  · refine pk_le 4 4 (fun _ => ⟨pk_in (p * 4 + l) 512 (by omega) (lz_ix p l), pk_in (p * 4 + l) 512 (by omega) (lz_ix p l), nm_r (e' := upd s.2 (p * 4 + l) (s.2 (p * 4 + l) + 1)) (by rw [lz_cl (by omega)]) ?_⟩) (fun z => absurd z (by omega))
    exact H s.1 s.2 h
  · refine pk_le 4 i (fun z => absurd z (by omega)) (fun _ => ⟨pk_in (p * 4 + i) 512 (by omega) (lz_ix p i), nm_r (e' := upd s.1 (p * 4 + i) (-1)) (by rw [lz_cl (by omega)]) ?_⟩)
    rcases hu with ⟨e, _, hb⟩ | ⟨u, u1, u2, e, _, hb⟩
    · refine br_f (by rw [e]; decide) ⟨pk_in (p * 4 + i) 512 (by omega) (lz_ix p i), nm_r (e' := upd s.2 (p * 4 + i) 0) (by rw [lz_cl (by omega)]) (nm_r (nI_1 i) ?_)⟩
      exact hw (upd s.1 (p * 4 + i) (-1), upd s.2 (p * 4 + i) 0) (lz_mpI_s h (hb i hi).symm)
    · refine br_t (by rw [e]; exact nI_pos' (by omega)) ⟨pk_in (u * 4 + i) 512 (by omega) (by rw [e]; exact lz_ix u i), pk_in (p * 4 + i) 512 (by omega) (lz_ix p i), nm_r (e' := upd s.2 (p * 4 + i) (s.2 (u * 4 + i))) (by rw [e, lz_cl (by omega), lz_cl (by omega)]) (nm_r (nI_1 i) ?_)⟩
      exact hw (upd s.1 (p * 4 + i) (-1), upd s.2 (p * 4 + i) (s.2 (u * 4 + i))) (lz_mpI_s h (by rw [hb i hi]; exact (h.1 (u * 4 + i) (by omega)).2))
theorem lz_mp {post : St2 → Prop} {p l : Nat} {x2 z3 : Int32} {g0 g1 g2 g3 g4 g5 : Int32} {a1 a2 a3 a4 a5 a6 a7 a8 a9 a10 a11 b : Nat → Int32} (hp : p < 128) (hl : l < 4) (hu : lz_up x2 p a3 a5 z3 b)
    (H : ∀ c4 c5, lz_mpI p a4 a5 b 4 (c4, c5) → post (g0, g1, g2, g3, g4, g5, upd a1 p x2, upd a2 p (nI l), upd a3 p z3, c4, upd c5 (p * 4 + l) (c5 (p * 4 + l) + 1), a6, a7, a8, a9, a10, a11)) :
    wpX_makePhrase post (g0, g1, g2, g3, g4, g5, a1, a2, a3, a4, a5, a6, a7, a8, a9, a10, a11) (nI p) x2 (nI l) := by
  have hc : (nI p).toNatClampNeg = p := nI_clamp (by omega)
  refine ⟨pk_in p 128 hp, nm_r (e' := upd a1 p x2) (by rw [hc]) ⟨pk_in p 128 hp, nm_r (e' := upd a2 p (nI l)) (by rw [hc]) ?_⟩⟩
  have hu' := hu
  rcases hu with ⟨e, e3, _⟩ | ⟨u, u1, u2, e, e3, _⟩
  · exact br_f (by rw [e]; decide) ⟨pk_in p 128 hp, nm_r (e' := upd a3 p z3) (by rw [hc, e3]) (lz_mp39 hp hl hu' H)⟩
  · exact br_t (by rw [e]; exact nI_pos' (by omega)) ⟨pk_in u 128 u1 e, pk_in p 128 hp, nm_r (e' := upd a3 p z3) (by rw [hc, e, nI_clamp (by omega), e3]) (lz_mp39 hp hl hu' H)⟩
theorem lz_start {post : St2 → Prop} {g0 g1 g2 g3 g4 g5 : Int32} {a1 a2 a3 a4 a5 a6 a7 a8 a9 a10 a11 : Nat → Int32}
    (H : ∀ c1 c2 c3 c4 c5, lz_ini 4 c1 c2 c3 c4 c5 → post (4, 0, 0, -1, g4, 0, c1, c2, c3, c4, c5, a6, a7, a8, a9, a10, a11)) :
    wpX_start post (g0, g1, g2, g3, g4, g5, a1, a2, a3, a4, a5, a6, a7, a8, a9, a10, a11) := by
  refine pk_loop (fun n i (s : (Nat → Int32) × (Nat → Int32) × (Nat → Int32) × (Nat → Int32) × (Nat → Int32)) => wX_start_27 post n (nI i) 4 0 0 (-1) g4 0 s.1 s.2.1 s.2.2.1 s.2.2.2.1 s.2.2.2.2 a6 a7 a8 a9 a10 a11) (fun i s => lz_ini i s.1 s.2.1 s.2.2.1 s.2.2.2.1 s.2.2.2.2) 4 0 (a1, a2, a3, a4, a5) (by omega) (fun l hl => absurd hl (by omega)) (fun n s h => ?_) (fun n i s hi h hw => ?_)
  · exact pk_le 4 4 (fun _ => H _ _ _ _ _ h) (fun z => absurd z (by omega))
  · refine pk_le 4 i (fun z => absurd z (by omega)) (fun _ => lz_mp (z3 := 1) (b := fun _ => 0) (by omega) hi (Or.inl ⟨rfl, rfl, fun _ _ => rfl⟩) (fun c4 c5 hI => nm_r (nI_1 i) ?_))
    exact hw (_, _, _, _, _) (lz_ini_s hi h hI (fun _ _ => rfl))
theorem lz_init {post : St2 → Prop} {mc ms : Nat} {g0 g1 g2 g3 g4 g5 : Int32} (hc : 11 ≤ mc) (hs : 4519 ≤ ms)
    (H : ∀ c1 c2 c3 c4 c5, lz_ini 4 c1 c2 c3 c4 c5 → post (4, 0, 0, -1, g4, 0, c1, c2, c3, c4, c5, (fun _ => 0), (fun _ => 0), (fun _ => 0), (fun _ => 0), (fun _ => 0), (fun _ => 0))) :
    wpX_init post mc ms (g0, g1, g2, g3, g4, g5) := by
  refine ⟨by omega, by omega, by omega, by omega, by omega, by omega, by omega, by omega, by omega, by omega, by omega, by omega, by omega, by omega, by omega, by omega, by omega, by omega, by omega, by omega, by omega, by omega, ?_⟩
  exact lz_start H
/-- the first letter -/
theorem lz_app0 {post : Int32 → St2 → Prop} {A : Nat} {g4 g5 : Int32} {a1 a2 a3 a4 a5 a6 a7 a8 a9 a10 a11 : Nat → Int32} (hA : A < 4)
    (H : post 1 (nI (4 + 0), nI (lz_t 0 + 1), nI 0, nI (lz_f A 1), g4, 0, a1, a2, a3, a4, a5, a6, upd a7 0 0, a8, a9, a10, a11)) :
    wpX_append post (4, 0, 0, -1, g4, g5, a1, a2, a3, a4, a5, a6, a7, a8, a9, a10, a11) (nI A) := by
  rw [lz_f1] at H
  refine pk_lt A 0 (fun z => absurd z (by omega)) (fun _ => pk_le A 3 (fun _ => pk_lt 0 120 (fun _ => br_f (by decide) ⟨pk_in 0 121 (by omega), nm_r (e' := upd a7 0 0) (by rfl) ?_⟩) (fun z => absurd z (by omega))) (fun z => absurd z (by omega)))
  exact nm_r (e' := 1) (by rfl) H
/-- one letter more of the same kind -/
theorem lz_app {post : Int32 → St2 → Prop} {A C s : Nat} {g4 g5 : Int32} {a1 a2 a3 a4 a5 a6 a7 a8 a9 a10 a11 : Nat → Int32} (hA : A < 4) (hs1 : 1 ≤ s) (hs : s ≤ C + 1) (hT : lz_t C + s < 120) (hD : lz_D A C a1 a2 a3 a4 a5 a6 a7)
    (H : ∀ C' s' c1 c2 c3 c4 c5 c6 c7, 1 ≤ s' → s' ≤ C' + 1 → lz_t C' + s' = lz_t C + s + 1 → lz_D A C' c1 c2 c3 c4 c5 c6 c7 → post (nI (lz_t C' + s')) (nI (4 + C'), nI (lz_t C' + s'), nI C', nI (lz_f A s'), g4, 0, c1, c2, c3, c4, c5, c6, c7, a8, a9, a10, a11)) :
    wpX_append post (nI (4 + C), nI (lz_t C + s), nI C, nI (lz_f A s), g4, g5, a1, a2, a3, a4, a5, a6, a7, a8, a9, a10, a11) (nI A) := by
  have hC : C ≤ 14 := lz_t15 (by omega)
  have hf : lz_f A s < 4 + C := lz_f_lt hA hs
  refine pk_lt A 0 (fun z => absurd z (by omega)) (fun _ => pk_le A 3 (fun _ => pk_lt (lz_t C + s) 120 (fun _ => pk_le 0 (lz_f A s) (fun _ => ⟨pk_in (lz_f A s * 4 + A) 512 (by omega) (lz_ix _ _), ?_⟩) (fun z => absurd z (by omega))) (fun z => absurd z (by omega))) (fun z => absurd z (by omega)))
  have hcl : (nI (lz_f A s) * 4 + nI A).toNatClampNeg = lz_f A s * 4 + A := lz_cl (by omega)
  by_cases e : s = C + 1
  · subst e
    have h4 := hD.2.2.2.2.1
    refine br_t (by rw [hcl, h4]; decide) ⟨pk_in (lz_f A (C + 1) * 4 + A) 512 (by omega) (lz_ix _ _), nm_r (e' := upd a4 (lz_f A (C + 1) * 4 + A) (nI (4 + C))) (by rw [hcl]) ?_⟩
    refine lz_mp (z3 := a3 (lz_f A (C + 1)) + 1) (b := fun m => a5 (lz_f A (C + 1) * 4 + m)) (by omega) hA (Or.inr ⟨lz_f A (C + 1), by omega, by omega, rfl, rfl, fun _ _ => rfl⟩) (fun c4 c5 hI => ?_)
    refine nm_r (e' := nI (4 + (C + 1))) (nI_1 _) ⟨pk_in C 120 (by omega), nm_r (e' := upd a6 C (nI (lz_f A (C + 1)))) (by rw [nI_clamp (by omega)]) (nm_r (nI_1 C) ⟨pk_in (C + 1) 121 (by omega), nm_r (e' := upd a7 (C + 1) (nI (lz_t C + (C + 1)))) (by rw [nI_clamp (by omega)]) ?_⟩)⟩
    have t := H (C + 1) 1 _ _ _ _ _ _ _ (by omega) (by omega) (by rw [lz_t_s]) (lz_D_new hA hD hI (fun _ _ => rfl))
    rw [lz_f1] at t
    exact nm_r (e' := nI (lz_t (C + 1) + 1)) (nI_1 _) t
  · have h4 := hD.2.2.2.1 s hs1 (by omega)
    have hf2 : lz_f A (s + 1) < 4 + C := lz_f_lt hA (by omega)
    refine br_f (by rw [hcl, h4]; exact nI_pos (by omega)) ⟨pk_in (lz_f A s * 4 + A) 512 (by omega) (lz_ix _ _), nm_r (e' := nI (lz_f A (s + 1))) (by rw [hcl, h4]) ?_⟩
    exact nm_r (e' := nI (lz_t C + (s + 1))) (nI_1 _) (H C (s + 1) _ _ _ _ _ _ _ (by omega) (by omega) (by omega) hD)
end
section
theorem lz_mid {a b : Nat} (h : a + b + 1 < 2 ^ 31) : (nI a + nI b + 1) / 2 = nI ((a + b + 1) / 2) := by
  rw [nI_add, nI_1, show (2 : Int32) = nI 2 from rfl, pk_div h (by omega) (by omega)]
theorem lz_ph {post : Int32 → Prop} {C x : Nat} {g0 g1 g3 g4 g5 : Int32} {a1 a2 a3 a4 a5 a6 a7 a8 a9 a10 a11 : Nat → Int32} (hC : C ≤ 14) (hx : x < 120) (h7 : ∀ i, i ≤ C → a7 i = nI (lz_t i))
    (H : ∀ r, r ≤ C → lz_t r ≤ x → post (nI r)) :
    wpX_phraseHolding post (g0, g1, nI C, g3, g4, g5, a1, a2, a3, a4, a5, a6, a7, a8, a9, a10, a11) (nI x) := by
  have ht : ∀ i, i ≤ C → lz_t i ≤ 105 := fun i hi => Nat.le_trans (lz_t_le (show i ≤ 14 by omega)) (by decide)
  refine loop_m (fun n (s : Nat × Nat) => wX_phraseHolding_7 post (nI x) g0 g1 (nI C) g3 g4 g5 a1 a2 a3 a4 a5 a6 a7 a8 a9 a10 a11 n (nI s.1) (nI s.2)) (fun s => s.1 ≤ s.2 ∧ s.2 ≤ C ∧ lz_t s.1 ≤ x) (fun s => s.2 - s.1) (fun n s h hw => ?_) (0, C) ⟨Nat.zero_le _, Nat.le_refl _, Nat.zero_le _⟩
  obtain ⟨lo, hi⟩ := s
  obtain ⟨h1, h2, h3⟩ := h
  have h1' : lo ≤ hi := h1
  have h2' : hi ≤ C := h2
  have h3' : lz_t lo ≤ x := h3
  refine pk_le hi lo (fun z => H lo (by omega) h3') (fun z => ⟨by decide, nm_r (lz_mid (by omega)) ⟨pk_in ((lo + hi + 1) / 2) 121 (by omega), ?_⟩⟩)
  have hm := ht ((lo + hi + 1) / 2) (by omega)
  refine pk_lt x (lz_t ((lo + hi + 1) / 2)) (fun w => nm_r (e' := nI ((lo + hi + 1) / 2 - 1)) (pk_sub (b := 1) (by omega)) ?_) (fun w => ?_) rfl (by rw [nI_clamp (by omega)]; exact h7 _ (by omega)) (by omega) (by omega)
  · exact hw (lo, (lo + hi + 1) / 2 - 1) ⟨by show lo ≤ _; omega, by show (lo + hi + 1) / 2 - 1 ≤ C; omega, h3'⟩ (by show (lo + hi + 1) / 2 - 1 - lo < hi - lo; omega)
  · exact hw ((lo + hi + 1) / 2, hi) ⟨by show (lo + hi + 1) / 2 ≤ hi; omega, h2', w⟩ (by show hi - (lo + hi + 1) / 2 < hi - lo; omega)
/-- the size of the phrase number i -/
def lz_z (C s i : Nat) : Nat := if i < C then i + 1 else s
theorem lz_z_in {C s i : Nat} (h1 : 1 ≤ s) (h2 : s ≤ C + 1) : 1 ≤ lz_z C s i ∧ lz_z C s i ≤ C + 1 := by
  unfold lz_z
  by_cases e : i < C
  · rw [if_pos e]; omega
  · rw [if_neg e]; omega
theorem lz_pa {post : Int32 → Prop} {A C s i : Nat} {g0 g1 g4 g5 : Int32} {a1 a2 a3 a4 a5 a6 a7 a8 a9 a10 a11 : Nat → Int32} (hC : C ≤ 14) (hi : i ≤ C) (h6 : ∀ i, i < C → a6 i = nI (lz_f A (i + 1)))
    (H : post (nI (lz_f A (lz_z C s i)))) :
    wpX_phraseAt post (g0, g1, nI C, nI (lz_f A s), g4, g5, a1, a2, a3, a4, a5, a6, a7, a8, a9, a10, a11) (nI i) := by
  refine pk_le C i (fun z => ?_) (fun z => ⟨pk_in i 120 (by omega), ?_⟩)
  · rw [show lz_z C s i = s from if_neg (by omega)] at H
    exact H
  · rw [show lz_z C s i = i + 1 from if_pos z] at H
    rw [nI_clamp (by omega), h6 i z]
    exact H
theorem lz_bg {post : Int32 → Prop} {A C k m : Nat} {g0 g1 g2 g3 g4 g5 : Int32} {a1 a2 a3 a4 a5 a6 a7 a8 a9 a10 a11 : Nat → Int32} (hA : A < 4) (hC : C ≤ 14) (hk1 : 1 ≤ k) (hk : k ≤ C + 1) (hm : 1 ≤ m) (hm2 : m < 2 ^ 31) (hD : lz_D A C a1 a2 a3 a4 a5 a6 a7)
    (H : post (nI (lz_f A (min k m)))) :
    wpX_beginning post (g0, g1, g2, g3, g4, g5, a1, a2, a3, a4, a5, a6, a7, a8, a9, a10, a11) (nI (lz_f A k)) (nI m) := by
  refine ⟨k, ?_⟩
  have main : ∀ k, 1 ≤ k → k ≤ C + 1 → post (nI (lz_f A (min k m))) → wX_beginning_2 post (nI m) g0 g1 g2 g3 g4 g5 a1 a2 a3 a4 a5 a6 a7 a8 a9 a10 a11 k (nI (lz_f A k)) := by
    intro k
    induction k with
    | zero => intro h; exact absurd h (by omega)
    | succ k ih =>
      intro k1 k2 hp
      have hf : lz_f A (k + 1) < 4 + C := lz_f_lt hA k2
      have h3 := (hD.2.2.1 (k + 1) k1 k2).2.1
      refine ⟨pk_in (lz_f A (k + 1)) 128 (by omega), pk_le (k + 1) m (fun z => ?_) (fun z => ⟨pk_in (lz_f A (k + 1)) 128 (by omega), nm_r (e' := nI (lz_f A k)) ?_ ?_⟩) (by rw [nI_clamp (by omega)]; exact h3) rfl (by omega) hm2⟩
      · rw [Nat.min_eq_left z] at hp
        exact hp
      · rw [nI_clamp (by omega)]
        exact hD.2.1 k (by omega) (by omega)
      · refine ih (by omega) (by omega) ?_
        rw [show min k m = min (k + 1) m by omega]
        exact hp
  exact main k hk1 hk H
theorem lz_la {post : Int32 → Prop} {A C s x : Nat} {g0 g4 g5 : Int32} {a1 a2 a3 a4 a5 a6 a7 a8 a9 a10 a11 : Nat → Int32} (hA : A < 4) (hs1 : 1 ≤ s) (hs : s ≤ C + 1) (hT : lz_t C + s ≤ 120) (hx : x < lz_t C + s) (hD : lz_D A C a1 a2 a3 a4 a5 a6 a7)
    (H : post (nI A)) :
    wpX_letterAt post (g0, nI (lz_t C + s), nI C, nI (lz_f A s), g4, g5, a1, a2, a3, a4, a5, a6, a7, a8, a9, a10, a11) (nI x) := by
  have hC : C ≤ 14 := lz_t15 (by omega)
  refine pk_lt x 0 (fun z => absurd z (by omega)) (fun _ => pk_lt x (lz_t C + s) (fun _ => ?_) (fun z => absurd z (by omega)))
  refine lz_ph hC (by omega) hD.2.2.2.2.2.2 (fun r hr htr => ?_)
  refine lz_pa hC hr hD.2.2.2.2.2.1 ⟨pk_in r 121 (by omega), ?_⟩
  have zz := lz_z_in (i := r) hs1 hs
  have e : nI x - a7 (nI r).toNatClampNeg + 1 = nI (x - lz_t r + 1) := by
    rw [nI_clamp (by omega), hD.2.2.2.2.2.2 r hr, pk_sub htr, nI_1]
  rw [e]
  refine lz_bg hA hC zz.1 zz.2 (by omega) (by omega) hD ?_
  have hf : lz_f A (min (lz_z C s r) (x - lz_t r + 1)) < 4 + C := lz_f_lt hA (by omega)
  refine ⟨pk_in (lz_f A (min (lz_z C s r) (x - lz_t r + 1))) 128 (by omega), ?_⟩
  rw [nI_clamp (by omega), (hD.2.2.1 (min (lz_z C s r) (x - lz_t r + 1)) (by omega) (by omega)).1]
  exact H
theorem lz_la_no {post : Int32 → Prop} {x g0 g1 g2 g3 g4 g5 : Int32} {a1 a2 a3 a4 a5 a6 a7 a8 a9 a10 a11 : Nat → Int32} (h : ¬ x < 0 → ¬ x < g1) (H : post (-4)) :
    wpX_letterAt post (g0, g1, g2, g3, g4, g5, a1, a2, a3, a4, a5, a6, a7, a8, a9, a10, a11) x :=
  br_c (fun _ => H) (fun z => br_f (h z) H)
/-- how many letters lie ahead of the phrase number i -/
def lz_e (C s i : Nat) : Nat := if i ≤ C then lz_t i else lz_t C + s
/-- of the first k letters: those that are l, in the phrases ahead of i -/
def lz_m (A C s l k i : Nat) : Nat := if l = A then min k (lz_e C s i) else 0
theorem lz_m_s {A C s l k i : Nat} (hs : s ≤ C + 1) (hi : i ≤ C) (hk : lz_t i < k) :
    lz_m A C s l k i + (if l = A then min (lz_z C s i) (k - lz_t i) else 0) = lz_m A C s l k (i + 1) := by
  unfold lz_m
  by_cases e : l = A
  · rw [if_pos e, if_pos e, if_pos e]
    unfold lz_e lz_z
    by_cases e2 : i < C
    · rw [if_pos hi, if_pos e2, if_pos (show i + 1 ≤ C by omega), lz_t_s]
      omega
    · have ec : i = C := by omega
      subst ec
      rw [if_pos hi, if_neg e2, if_neg (show ¬ i + 1 ≤ i by omega)]
      omega
  · rw [if_neg e, if_neg e, if_neg e]
theorem lz_fr23 {post : Int32 → Prop} {A C s l k : Nat} {g0 g1 g4 g5 : Int32} {a1 a2 a3 a4 a5 a6 a7 a8 a9 a10 a11 : Nat → Int32} (hA : A < 4) (hl : l < 4) (hs1 : 1 ≤ s) (hs : s ≤ C + 1) (hT : lz_t C + s ≤ 120) (hk : k ≤ lz_t C + s) (hD : lz_D A C a1 a2 a3 a4 a5 a6 a7)
    (H : post (nI (if l = A then k else 0))) :
    ∃ n, wX_frequency_23 post (nI l) (nI k) g0 g1 (nI C) (nI (lz_f A s)) g4 g5 a1 a2 a3 a4 a5 a6 a7 a8 a9 a10 a11 n 0 0 := by
  have hC : C ≤ 14 := lz_t15 (by omega)
  have ht : ∀ i, i ≤ C → lz_t i ≤ 105 := fun i hi => Nat.le_trans (lz_t_le (show i ≤ 14 by omega)) (by decide)
  have t := pk_loop (σ := Unit) (fun n i _ => wX_frequency_23 post (nI l) (nI k) g0 g1 (nI C) (nI (lz_f A s)) g4 g5 a1 a2 a3 a4 a5 a6 a7 a8 a9 a10 a11 n (nI (lz_m A C s l k i)) (nI i)) (fun _ _ => True) (C + 1) 0 () (by omega) trivial (fun n _ _ => ?_) (fun n i _ hi _ hw => ?_)
  · have e0 : lz_m A C s l k 0 = 0 := by
      unfold lz_m lz_e
      rw [if_pos (Nat.zero_le C)]
      by_cases e : l = A
      · rw [if_pos e]; exact Nat.min_zero k
      · rw [if_neg e]
    rw [e0] at t
    exact t
  · have e : lz_m A C s l k (C + 1) = if l = A then k else 0 := by
      unfold lz_m lz_e
      rw [if_neg (show ¬ C + 1 ≤ C by omega), Nat.min_eq_left hk]
    refine pk_lt C (C + 1) (fun _ => ?_) (fun z => absurd z (by omega))
    rw [e]
    exact H
  · have h7 : a7 (nI i).toNatClampNeg = nI (lz_t i) := by
      rw [nI_clamp (by omega)]
      exact hD.2.2.2.2.2.2 i (by omega)
    have hti := ht i (by omega)
    refine pk_lt C i (fun z => absurd z (by omega)) (fun _ => ⟨pk_in i 121 (by omega), pk_le k (lz_t i) (fun z => ?_) (fun z => ?_) rfl h7 (by omega) (by omega)⟩)
    · have e : lz_m A C s l k i = if l = A then k else 0 := by
        unfold lz_m lz_e
        rw [if_pos (show i ≤ C by omega), Nat.min_eq_left z]
      rw [e]
      exact H
    · have zz := lz_z_in (i := i) hs1 hs
      refine lz_pa hC (by omega) hD.2.2.2.2.2.1 ⟨pk_in i 121 (by omega), ?_⟩
      rw [h7, pk_sub (by omega)]
      refine lz_bg hA hC zz.1 zz.2 (by omega) (by omega) hD ?_
      have hf : lz_f A (min (lz_z C s i) (k - lz_t i)) < 4 + C := lz_f_lt hA (by omega)
      have h5 := (hD.2.2.1 (min (lz_z C s i) (k - lz_t i)) (by omega) (by omega)).2.2 l hl
      refine ⟨pk_in (lz_f A (min (lz_z C s i) (k - lz_t i)) * 4 + l) 512 (by omega) (lz_ix _ _), nm_r (e' := nI (lz_m A C s l k (i + 1))) ?_ (nm_r (nI_1 i) (hw () trivial))⟩
      rw [lz_cl (by omega), h5, nI_add, lz_m_s hs (by omega) z]
/-- letterAt, over a text of T letters A -/
theorem lz_la2 {A C s : Nat} {x g0 g4 g5 : Int32} {a1 a2 a3 a4 a5 a6 a7 a8 a9 a10 a11 : Nat → Int32} (hA : A < 4) (hs1 : 1 ≤ s) (hs : s ≤ C + 1) (hT : lz_t C + s ≤ 120) (hD : lz_D A C a1 a2 a3 a4 a5 a6 a7) :
    ∃ r : Int32, (x < 0 → r = -4) ∧ (¬ x < 0 → nI (lz_t C + s) ≤ x → r = -4) ∧ (¬ x < 0 → ¬ nI (lz_t C + s) ≤ x → r = nI A) ∧
      ∀ post : Int32 → Prop, post r → wpX_letterAt post (g0, nI (lz_t C + s), nI C, nI (lz_f A s), g4, g5, a1, a2, a3, a4, a5, a6, a7, a8, a9, a10, a11) x := by
  by_cases hx : x < 0
  · exact ⟨-4, fun _ => rfl, fun _ _ => rfl, fun z => absurd hx z, fun post H => lz_la_no (fun z => absurd hx z) H⟩
  · obtain ⟨j, hj, rfl⟩ := nI_of hx
    rcases Nat.lt_or_ge j (lz_t C + s) with z | z
    · exact ⟨nI A, fun w => absurd w hx, fun _ w => absurd w (nI_ge z (by omega)), fun _ _ => rfl, fun post H => lz_la hA hs1 hs hT z hD H⟩
    · exact ⟨-4, fun _ => rfl, fun _ _ => rfl, fun _ w => absurd (nI_le z hj) w, fun post H => lz_la_no (fun _ => nI_nlt z hj) H⟩
/-- frequency, over a text of T letters A -/
theorem lz_fr {A C s l : Nat} {x g0 g4 g5 : Int32} {a1 a2 a3 a4 a5 a6 a7 a8 a9 a10 a11 : Nat → Int32} (hA : A < 4) (hl : l < 4) (hs1 : 1 ≤ s) (hs : s ≤ C + 1) (hT : lz_t C + s ≤ 120) (hD : lz_D A C a1 a2 a3 a4 a5 a6 a7) :
    ∃ k : Nat, (x < 0 → k = 0) ∧ (¬ x < 0 → nI (lz_t C + s) ≤ x → k = lz_t C + s) ∧ (¬ x < 0 → ¬ nI (lz_t C + s) ≤ x → nI k = x) ∧
      ∀ post : Int32 → Prop, post (nI (if l = A then k else 0)) → wpX_frequency post (g0, nI (lz_t C + s), nI C, nI (lz_f A s), g4, g5, a1, a2, a3, a4, a5, a6, a7, a8, a9, a10, a11) (nI l) x := by
  by_cases hx : x < 0
  · refine ⟨0, fun _ => rfl, fun z => absurd hx z, fun z => absurd hx z, fun post H => pk_lt l 0 (fun z => absurd z (by omega)) (fun _ => pk_le l 3 (fun _ => ?_) (fun z => absurd z (by omega)))⟩
    exact br_f (Int32.not_le.mpr hx) (lz_fr23 hA hl hs1 hs hT (Nat.zero_le _) hD H)
  · obtain ⟨j, hj, rfl⟩ := nI_of hx
    rcases Nat.lt_or_ge (lz_t C + s) j with z | z
    · refine ⟨lz_t C + s, fun w => absurd w hx, fun _ _ => rfl, fun _ w => absurd (nI_le (by omega) hj) w, fun post H => pk_lt l 0 (fun z => absurd z (by omega)) (fun _ => pk_le l 3 (fun _ => ?_) (fun z => absurd z (by omega)))⟩
      exact br_t (nI_pos' hj) (pk_le j (lz_t C + s) (fun w => absurd w (by omega)) (fun _ => lz_fr23 hA hl hs1 hs hT (Nat.le_refl _) hD H))
    · refine ⟨j, fun w => absurd w hx, fun _ w => ?_, fun _ _ => rfl, fun post H => pk_lt l 0 (fun z => absurd z (by omega)) (fun _ => pk_le l 3 (fun _ => ?_) (fun z => absurd z (by omega)))⟩
      · have w' := (nI_leI (by omega) hj).mp w
        omega
      · exact br_t (nI_pos' hj) (pk_le j (lz_t C + s) (fun _ => lz_fr23 hA hl hs1 hs hT z hD H) (fun w => absurd w (by omega)))
/-- frequency over no text -/
theorem lz_fr0 {post : Int32 → Prop} {l : Nat} {x g0 g3 g4 g5 : Int32} {a1 a2 a3 a4 a5 a6 a7 a8 a9 a10 a11 : Nat → Int32} (hl : l < 4) (h7 : a7 0 = 0) (H : post 0) :
    wpX_frequency post (g0, 0, 0, g3, g4, g5, a1, a2, a3, a4, a5, a6, a7, a8, a9, a10, a11) (nI l) x := by
  have t : ∃ n, wX_frequency_23 post (nI l) 0 g0 0 0 g3 g4 g5 a1 a2 a3 a4 a5 a6 a7 a8 a9 a10 a11 n 0 0 :=
    ⟨1, pk_lt 0 0 (fun z => absurd z (by omega)) (fun _ => ⟨pk_in 0 121 (by omega), pk_le 0 0 (fun _ => H) (fun z => absurd z (by omega)) rfl h7⟩)⟩
  refine pk_lt l 0 (fun z => absurd z (by omega)) (fun _ => pk_le l 3 (fun _ => ?_) (fun z => absurd z (by omega)))
  by_cases hx : 0 ≤ x
  · refine br_t hx (br_c (fun z => ?_) (fun _ => t))
    have e : x = 0 := Int32.le_antisymm z hx
    rw [e]
    exact t
  · exact br_f hx t
theorem lz_fr_no {post : Int32 → Prop} {p x g0 g1 g2 g3 g4 g5 : Int32} {a1 a2 a3 a4 a5 a6 a7 a8 a9 a10 a11 : Nat → Int32} (h : ¬ p < 0 → ¬ p ≤ 3) (H : post (-1)) :
    wpX_frequency post (g0, g1, g2, g3, g4, g5, a1, a2, a3, a4, a5, a6, a7, a8, a9, a10, a11) p x :=
  br_c (fun _ => H) (fun z => br_f (h z) H)
end
section
theorem lz_rp42 {post : Int32 → St2 → Prop} {A k : Nat} {g4 : Int32} {a8 a9 a10 a11 : Nat → Int32} (hA : A < 4) (hk : k ≤ 119)
    (H : ∀ C s g5 a1 a2 a3 a4 a5 a6 a7, 1 ≤ s → s ≤ C + 1 → lz_t C + s = 1 + k → lz_D A C a1 a2 a3 a4 a5 a6 a7 → post (nI (lz_t C + s)) (nI (4 + C), nI (lz_t C + s), nI C, nI (lz_f A s), g4, g5, a1, a2, a3, a4, a5, a6, a7, a8, a9, a10, a11)) :
    ∀ j i C s g5 a1 a2 a3 a4 a5 a6 a7, i + j = k → 1 ≤ s → s ≤ C + 1 → lz_t C + s = 1 + i → lz_D A C a1 a2 a3 a4 a5 a6 a7 →
      wX_repeat_42 post 0 (nI k) (j + 1) (nI i) (nI (4 + C)) (nI (lz_t C + s)) (nI C) (nI (lz_f A s)) g4 g5 a1 a2 a3 a4 a5 a6 a7 a8 a9 a10 a11 := by
  intro j
  induction j with
  | zero =>
    intro i C s g5 a1 a2 a3 a4 a5 a6 a7 hi h1 h2 h3 hD
    exact pk_le k i (fun _ => H C s g5 a1 a2 a3 a4 a5 a6 a7 h1 h2 (by omega) hD) (fun z => absurd z (by omega))
  | succ j ih =>
    intro i C s g5 a1 a2 a3 a4 a5 a6 a7 hi h1 h2 h3 hD
    refine pk_le k i (fun z => absurd z (by omega)) (fun _ => ?_)
    rw [Int32.zero_add]
    refine lz_la hA h1 h2 (by omega) (by omega) hD ?_
    refine lz_app hA h1 h2 (by omega) hD (fun C' s' c1 c2 c3 c4 c5 c6 c7 k1 k2 k3 k4 => nm_r (nI_1 i) ?_)
    exact ih (i + 1) C' s' 0 c1 c2 c3 c4 c5 c6 c7 (by omega) k1 k2 (by omega) k4
/-- repeat(0, n) with room: x is n or 0 -/
theorem lz_rp9 {post : Int32 → St2 → Prop} {A k : Nat} {g4 g5 : Int32} {a1 a2 a3 a4 a5 a6 a7 a8 a9 a10 a11 : Nat → Int32} (hA : A < 4) (hk : k ≤ 119) (hD : lz_D A 0 a1 a2 a3 a4 a5 a6 a7)
    (H : ∀ C s g5 a1 a2 a3 a4 a5 a6 a7, 1 ≤ s → s ≤ C + 1 → lz_t C + s = 1 + k → lz_D A C a1 a2 a3 a4 a5 a6 a7 → post (nI (lz_t C + s)) (nI (4 + C), nI (lz_t C + s), nI C, nI (lz_f A s), g4, g5, a1, a2, a3, a4, a5, a6, a7, a8, a9, a10, a11)) :
    wX_repeat_9 post 0 (nI k) (nI (4 + 0)) (nI (lz_t 0 + 1)) (nI 0) (nI (lz_f A 1)) g4 g5 a1 a2 a3 a4 a5 a6 a7 a8 a9 a10 a11 :=
  br_f (by decide) (br_t (by decide) (pk_le k 119 (fun _ => ⟨k + 1, lz_rp42 hA hk H k 0 0 1 g5 a1 a2 a3 a4 a5 a6 a7 (by omega) (by omega) (by omega) rfl hD⟩) (fun z => absurd z (by omega))))
/-! the automaton of a pattern of one letter -/
theorem lz_ba53 {post : St2 → Prop} {J : Int32 → Int32 → (Nat → Int32) → (Nat → Int32) → (Nat → Int32) → (Nat → Int32) → (Nat → Int32) → (Nat → Int32) → (Nat → Int32) → (Nat → Int32) → (Nat → Int32) → (Nat → Int32) → (Nat → Int32) → Prop} {g0 g1 g2 g3 g5 : Int32} {a1 a2 a3 a4 a5 a6 a7 a8 a9 a10 a11 : Nat → Int32}
    (H : ∀ c9, (∀ l, l < 4 → c9 l = a9 l ∧ c9 (4 + l) = a9 l) → J (nI 0) (nI 2) a1 a2 a3 a4 a5 a6 a7 a8 c9 a10 a11) :
    ∃ n, wX_buildAutomaton_53 post J (nI 0) (nI 1) g0 g1 g2 g3 (nI 1) g5 n (nI 0) a1 a2 a3 a4 a5 a6 a7 a8 a9 a10 a11 := by
  refine pk_loop (fun n i s => wX_buildAutomaton_53 post J (nI 0) (nI 1) g0 g1 g2 g3 (nI 1) g5 n (nI i) a1 a2 a3 a4 a5 a6 a7 a8 s a10 a11) (fun i s => (∀ l, l < 4 → s l = a9 l) ∧ ∀ l, l < i → s (4 + l) = a9 l) 4 0 a9 (by omega) ⟨fun _ _ => rfl, fun l h => absurd h (by omega)⟩ (fun n s h => ?_) (fun n i s hi h hw => ?_)
  · exact pk_le 4 4 (fun _ => pk_le 1 1 (fun _ => nm_r (nI_1 1) (H s (fun l hl => ⟨h.1 l hl, h.2 l hl⟩))) (fun z => absurd z (by omega))) (fun z => absurd z (by omega))
  · refine pk_le 4 i (fun z => absurd z (by omega)) (fun _ => pk_le 1 1 (fun _ => ?_) (fun z => absurd z (by omega)))
    refine br_t rfl ⟨pk_in (0 * 4 + i) 44 (by omega) (lz_ix 0 i), pk_in (1 * 4 + i) 44 (by omega) (lz_ix 1 i), nm_r (e' := upd s (1 * 4 + i) (s (0 * 4 + i))) (by rw [lz_cl (by omega), lz_cl (by omega)]) (nm_r (nI_1 i) (hw _ ⟨fun l hl => ?_, fun l hl => ?_⟩))⟩
    · rw [pk_un (by omega)]
      exact h.1 l hl
    · by_cases e : l = i
      · subst e
        rw [show 1 * 4 + l = 4 + l by omega, pk_us, show 0 * 4 + l = l by omega]
        exact h.1 l hi
      · rw [pk_un (by omega)]
        exact h.2 l (by omega)
theorem lz_ba7 {post : St2 → Prop} {P : Nat} {g0 g1 g2 g3 g5 : Int32} {a1 a2 a3 a4 a5 a6 a7 a8 a9 a10 a11 : Nat → Int32} (hP : P < 4) (h8 : a8 0 = nI P)
    (H : ∀ c9 : Nat → Int32, (∀ q l, q ≤ 1 → l < 4 → c9 (q * 4 + l) = nI (if l = P then 1 else 0)) → post (g0, g1, g2, g3, 1, 0, a1, a2, a3, a4, a5, a6, a7, a8, c9, a10, a11)) :
    wpX_buildAutomaton post (g0, g1, g2, g3, 1, g5, a1, a2, a3, a4, a5, a6, a7, a8, a9, a10, a11) := by
  refine pk_loop (fun n i s => wX_buildAutomaton_7 post g0 g1 g2 g3 1 0 n (nI i) a1 a2 a3 a4 a5 a6 a7 a8 s a10 a11) (fun i s => ∀ l, l < i → s l = nI (if l = P then 1 else 0)) 4 0 a9 (by omega) (fun l h => absurd h (by omega)) (fun n s h => ?_) (fun n i s hi h hw => ?_)
  · refine pk_le 4 4 (fun _ => ⟨2, pk_lt 1 1 (fun z => absurd z (by omega)) (fun _ => ?_)⟩) (fun z => absurd z (by omega))
    refine lz_ba53 (fun c9 hc => pk_lt 1 2 (fun _ => H c9 (fun q l hq hl => ?_)) (fun z => absurd z (by omega)))
    rcases (show q = 0 ∨ q = 1 by omega) with e | e
    · subst e
      rw [show 0 * 4 + l = l by omega, (hc l hl).1]
      exact h l hl
    · subst e
      rw [show 1 * 4 + l = 4 + l by omega, (hc l hl).2]
      exact h l hl
  · refine pk_le 4 i (fun z => absurd z (by omega)) (fun _ => pk_eq P i (fun e => ⟨pk_in i 44 (by omega), nm_r (e' := upd s i 1) (by rw [nI_clamp (by omega)]) (nm_r (nI_1 i) (hw _ ?_))⟩) (fun e => ⟨pk_in i 44 (by omega), nm_r (e' := upd s i 0) (by rw [nI_clamp (by omega)]) (nm_r (nI_1 i) (hw _ ?_))⟩) h8)
    · intro l hl
      by_cases el : l = i
      · rw [el, pk_us, if_pos e.symm]
        rfl
      · rw [pk_un el]
        exact h l (by omega)
    · intro l hl
      by_cases el : l = i
      · rw [el, pk_us, if_neg (fun z => e z.symm)]
        rfl
      · rw [pk_un el]
        exact h l (by omega)
theorem lz_pt {post : Int32 → St2 → Prop} {P : Nat} {g0 g1 g2 g3 g5 : Int32} {a1 a2 a3 a4 a5 a6 a7 a8 a9 a10 a11 : Nat → Int32} (hP : P < 4)
    (H : ∀ c8 c9 : Nat → Int32, (∀ q l, q ≤ 1 → l < 4 → c9 (q * 4 + l) = nI (if l = P then 1 else 0)) → post 1 (g0, g1, g2, g3, 1, 0, a1, a2, a3, a4, a5, a6, a7, c8, c9, a10, a11)) :
    wpX_pattern post (g0, g1, g2, g3, 0, g5, a1, a2, a3, a4, a5, a6, a7, a8, a9, a10, a11) (nI P) := by
  refine pk_lt P 0 (fun z => absurd z (by omega)) (fun _ => pk_le P 3 (fun _ => pk_lt 0 10 (fun _ => ⟨pk_in 0 10 (by omega), nm_r (e' := upd a8 0 (nI P)) (by rfl) (nm_r (e' := 1) (by rfl) ?_)⟩) (fun z => absurd z (by omega))) (fun z => absurd z (by omega)))
  exact lz_ba7 hP pk_us (fun c9 hc => H (upd a8 0 (nI P)) c9 hc)
theorem lz_pt_no {post : Int32 → St2 → Prop} {p g0 g1 g2 g3 g4 g5 : Int32} {a1 a2 a3 a4 a5 a6 a7 a8 a9 a10 a11 : Nat → Int32} (h : ¬ p < 0 → ¬ p ≤ 3)
    (H : post (-1) (g0, g1, g2, g3, g4, g5, a1, a2, a3, a4, a5, a6, a7, a8, a9, a10, a11)) :
    wpX_pattern post (g0, g1, g2, g3, g4, g5, a1, a2, a3, a4, a5, a6, a7, a8, a9, a10, a11) p :=
  br_c (fun _ => H) (fun z => br_f (h z) H)
/-! the tables -/
theorem lz_b8 {v : Nat} (hv : v ≤ 1) : (nI v).toInt8.toInt32 = nI v := by
  rcases (show v = 0 ∨ v = 1 by omega) with e | e
  · subst e; decide
  · subst e; decide
theorem lz_fi67 {post : St2 → Prop} {p w st l v : Nat} {z0 g0 g1 g2 g3 g4 g5 : Int32} {a1 a2 a3 a4 a5 a6 a7 a8 a9 a10 a11 : Nat → Int32} (hp : p < 128) (hw : w < 1408) (hst : st ≤ 1) (hl : l < 4) (hv : v ≤ 1) (h2 : a2 p = nI l) (h9 : a9 (st * 4 + l) = nI v)
    (H : ∀ c11, post (g0, g1, g2, g3, g4, g5, a1, a2, a3, a4, a5, a6, a7, a8, a9, upd a10 w (nI v), c11)) :
    wX_fill_67 post (nI p) (nI w) (nI st) z0 g0 g1 g2 g3 g4 g5 a1 a2 a3 a4 a5 a6 a7 a8 a9 a10 a11 :=
  ⟨pk_in p 128 hp, pk_in (st * 4 + l) 44 (by omega) (by rw [nI_clamp (by omega), h2]; exact lz_ix st l), nm_r (e' := nI v) (by rw [nI_clamp (n := p) (by omega), h2, lz_cl (by omega), h9])
    ⟨pk_in w 1408 hw, nm_r (e' := upd a10 w (nI v)) (by rw [nI_clamp (by omega), lz_b8 hv])
      (br_c (fun _ => ⟨pk_in w 1408 hw, nm_e (H _)⟩) (fun _ => ⟨pk_in w 1408 hw, nm_e (H _)⟩))⟩⟩
theorem lz_fill {post : St2 → Prop} {p q l v : Nat} {g0 g1 g2 g3 g4 g5 : Int32} {a1 a2 a3 a4 a5 a6 a7 a8 a9 a10 a11 : Nat → Int32} (hp : p < 20) (hq : q ≤ 1) (hl : l < 4) (hv : v ≤ 1) (h2 : a2 p = nI l) (h9 : ∀ t, t ≤ 1 → a9 (t * 4 + l) = nI v)
    (h1 : a1 p = -1 ∨ ∃ u t, u < p ∧ t ≤ 1 ∧ a1 p = nI u ∧ a10 (u * 11 + q) = nI t)
    (H : ∀ c11, post (g0, g1, g2, g3, g4, g5, a1, a2, a3, a4, a5, a6, a7, a8, a9, upd a10 (p * 11 + q) (nI v), c11)) :
    wpX_fill post (g0, g1, g2, g3, g4, g5, a1, a2, a3, a4, a5, a6, a7, a8, a9, a10, a11) (nI p) (nI q) := by
  have hc : (nI p).toNatClampNeg = p := nI_clamp (by omega)
  refine nm_r (lz_ix11 p q) ⟨pk_in p 128 (by omega), ?_⟩
  rcases h1 with e | ⟨u, t, hu, ht, e, e10⟩
  · have n0 : ¬ 0 ≤ a1 (nI p).toNatClampNeg := by rw [hc, e]; decide
    exact br_f n0 ⟨pk_in p 128 (by omega), br_f n0 (lz_fi67 (by omega) (by omega) hq hl hv h2 (h9 q hq) H)⟩
  · have n0 : 0 ≤ a1 (nI p).toNatClampNeg := by rw [hc, e]; exact nI_pos' (by omega)
    have e1 : a1 (nI p).toNatClampNeg * 11 + nI q = nI (u * 11 + q) := by rw [hc, e]; exact lz_ix11 u q
    have e2 : a10 (a1 (nI p).toNatClampNeg * 11 + nI q).toNatClampNeg = nI t := by rw [e1, nI_clamp (by omega), e10]
    refine br_t n0 ⟨pk_in p 128 (by omega), pk_in (u * 11 + q) 1408 (by omega) e1, ?_⟩
    rw [e2]
    exact ⟨pk_in p 128 (by omega), br_t n0 ⟨pk_in p 128 (by omega), pk_in (u * 11 + q) 1408 (by omega) e1, lz_fi67 (by omega) (by omega) ht hl hv h2 (h9 t ht) H⟩⟩
theorem lz_pr {post : St2 → Prop} {N : Nat} {L e : Nat → Nat} {g1 g2 g3 : Int32} {a1 a2 a3 a4 a5 a6 a7 a8 a9 a10 a11 : Nat → Int32} (hN : N ≤ 20) (h1 : ∀ p, p < N → a1 p = -1 ∨ ∃ u, u < p ∧ a1 p = nI u) (h2 : ∀ p, p < N → a2 p = nI (L p) ∧ L p < 4) (he : ∀ l, e l ≤ 1) (h9 : ∀ q l, q ≤ 1 → l < 4 → a9 (q * 4 + l) = nI (e l))
    (H : ∀ c10 c11 : Nat → Int32, (∀ p, p < N → ∀ q, q ≤ 1 → c10 (p * 11 + q) = nI (e (L p))) → post (nI N, g1, g2, g3, 1, 1, a1, a2, a3, a4, a5, a6, a7, a8, a9, c10, c11)) :
    wpX_prepare post (nI N, g1, g2, g3, 1, 0, a1, a2, a3, a4, a5, a6, a7, a8, a9, a10, a11) := by
  refine br_t rfl ?_
  refine pk_loop (fun n i (s : (Nat → Int32) × (Nat → Int32)) => wX_prepare_15 post n (nI i) (nI N) g1 g2 g3 1 1 a1 a2 a3 a4 a5 a6 a7 a8 a9 s.1 s.2) (fun i s => ∀ p, p < i → ∀ q, q ≤ 1 → s.1 (p * 11 + q) = nI (e (L p))) N 0 (a10, a11) (by omega) (fun p hp => absurd hp (by omega)) (fun n s h => ?_) (fun n i s hi h hw => ?_)
  · exact pk_le N N (fun _ => H _ _ h) (fun z => absurd z (by omega))
  · refine pk_le N i (fun z => absurd z (by omega)) (fun _ => ⟨3, ?_⟩)
    obtain ⟨k2, kL⟩ := h2 i hi
    have par : ∀ (c : Nat → Int32) (q : Nat), q ≤ 1 → (∀ u, u < i → c (u * 11 + q) = nI (e (L u))) → (a1 i = -1 ∨ ∃ u t, u < i ∧ t ≤ 1 ∧ a1 i = nI u ∧ c (u * 11 + q) = nI t) := by
      intro c q hq hc
      rcases h1 i hi with z | ⟨u, hu, z⟩
      · exact Or.inl z
      · exact Or.inr ⟨u, e (L u), hu, he _, z, hc u hu⟩
    refine pk_lt 1 0 (fun z => absurd z (by omega)) (fun _ => ?_)
    refine lz_fill (q := 0) (by omega) (by omega) kL (he (L i)) k2 (fun t ht => h9 t (L i) ht kL) (par s.1 0 (by omega) (fun u hu => h u hu 0 (by omega))) (fun c11 => nm_r (nI_1 0) ?_)
    refine pk_lt 1 1 (fun z => absurd z (by omega)) (fun _ => ?_)
    refine lz_fill (q := 1) (by omega) (by omega) kL (he (L i)) k2 (fun t ht => h9 t (L i) ht kL) (par _ 1 (by omega) (fun u hu => ?_)) (fun c11' => nm_r (nI_1 1) ?_)
    · rw [pk_un (by omega)]
      exact h u hu 1 (by omega)
    · refine pk_lt 1 2 (fun _ => nm_r (nI_1 i) ?_) (fun z => absurd z (by omega))
      refine hw (_, _) (fun p hp q hq => ?_)
      show upd (upd s.1 (i * 11 + 0) (nI (e (L i)))) (i * 11 + 1) (nI (e (L i))) (p * 11 + q) = nI (e (L p))
      by_cases ep : p = i
      · subst ep
        rcases (show q = 0 ∨ q = 1 by omega) with eq | eq
        · subst eq
          rw [pk_un (by omega), pk_us]
        · subst eq
          rw [pk_us]
      · rw [pk_un (by omega), pk_un (by omega)]
        exact h p (by omega) q hq
/-! overlap -/
theorem lz_ov24 {post : Int32 → St2 → Prop} {A C s d : Nat} {g0 g1 g4 g5 : Int32} {a1 a2 a3 a4 a5 a6 a7 a8 a9 a10 a11 : Nat → Int32} (hA : A < 4) (hC : C ≤ 14) (hs1 : 1 ≤ s) (hs : s ≤ C + 1) (hd : d ≤ 1) (h6 : ∀ i, i < C → a6 i = nI (lz_f A (i + 1))) (h10 : ∀ k, 1 ≤ k → k ≤ C + 1 → ∀ q, q ≤ 1 → a10 (lz_f A k * 11 + q) = nI d)
    (H : post (nI d) (g0, g1, nI C, nI (lz_f A s), g4, g5, a1, a2, a3, a4, a5, a6, a7, a8, a9, a10, a11)) :
    ∃ n, wX_overlap_24 post g0 g1 (nI C) (nI (lz_f A s)) g4 g5 a1 a2 a3 a4 a5 a6 a7 a8 a9 a10 a11 n 0 0 := by
  refine pk_loop (fun n i q => wX_overlap_24 post g0 g1 (nI C) (nI (lz_f A s)) g4 g5 a1 a2 a3 a4 a5 a6 a7 a8 a9 a10 a11 n q (nI i)) (fun i q => (i = 0 ∧ q = nI 0) ∨ (0 < i ∧ q = nI d)) (C + 1) 0 (nI 0) (by omega) (Or.inl ⟨rfl, rfl⟩) (fun n q h => ?_) (fun n i q hi h hw => ?_)
  · rcases h with ⟨z, _⟩ | ⟨_, e⟩
    · exact absurd z (by omega)
    · subst e
      exact pk_lt C (C + 1) (fun _ => H) (fun z => absurd z (by omega))
  · have hq : ∃ t, t ≤ 1 ∧ q = nI t := by
      rcases h with ⟨_, e⟩ | ⟨_, e⟩
      · exact ⟨0, by omega, e⟩
      · exact ⟨d, hd, e⟩
    obtain ⟨t, ht, rfl⟩ := hq
    have zz := lz_z_in (i := i) hs1 hs
    have hf : lz_f A (lz_z C s i) < 4 + C := lz_f_lt hA zz.2
    refine pk_lt C i (fun z => absurd z (by omega)) (fun _ => lz_pa hC (by omega) h6 ⟨pk_in (lz_f A (lz_z C s i) * 11 + t) 1408 (by omega) (lz_ix11 _ _), nm_r (e' := nI d) (by rw [lz_cl11 (by omega)]; exact h10 _ zz.1 zz.2 t ht) (nm_r (nI_1 i) (hw _ (Or.inr ⟨by omega, rfl⟩)))⟩)
theorem lz_ov {post : Int32 → St2 → Prop} {A C s P : Nat} {a1 a2 a3 a4 a5 a6 a7 a8 a9 a10 a11 : Nat → Int32} (hA : A < 4) (hs1 : 1 ≤ s) (hs : s ≤ C + 1) (hT : lz_t C + s ≤ 120) (hD : lz_D A C a1 a2 a3 a4 a5 a6 a7) (h9 : ∀ q l, q ≤ 1 → l < 4 → a9 (q * 4 + l) = nI (if l = P then 1 else 0))
    (H : ∀ g0 g1 g2 g3 g4 g5 b1 b2 b3 b4 b5 b6 b7 b8 b9 b10 b11, post (nI (if A = P then 1 else 0)) (g0, g1, g2, g3, g4, g5, b1, b2, b3, b4, b5, b6, b7, b8, b9, b10, b11)) :
    wpX_overlap post (nI (4 + C), nI (lz_t C + s), nI C, nI (lz_f A s), 1, 0, a1, a2, a3, a4, a5, a6, a7, a8, a9, a10, a11) := by
  have hC : C ≤ 14 := lz_t15 (by omega)
  have new : ∀ p, 4 ≤ p → p < 4 + C → p = lz_f A (p - 3 + 1) ∧ 1 ≤ p - 3 ∧ p - 3 ≤ C := by
    intro p p1 p2
    refine ⟨?_, by omega, by omega⟩
    rw [show p - 3 + 1 = (p - 4) + 2 by omega, lz_f2]
    omega
  have he : ∀ l, (if l = P then 1 else 0) ≤ 1 := by
    intro l
    by_cases e : l = P
    · rw [if_pos e]; omega
    · rw [if_neg e]; omega
  refine br_f (by decide) (pk_eq (lz_t C + s) 0 (fun z => absurd z (by omega)) (fun _ => ?_))
  refine lz_pr (L := fun p => if p < 4 then p else A) (e := fun l => if l = P then 1 else 0) (by omega) (fun p hp => ?_) (fun p hp => ?_) he h9 (fun c10 c11 hc => ?_)
  · by_cases e : p < 4
    · exact Or.inl (hD.1 p e).1
    · obtain ⟨n1, n2, n3⟩ := new p (by omega) hp
      refine Or.inr ⟨lz_f A (p - 3), ?_, ?_⟩
      · have := lz_f_lt (A := A) (k := p - 3) (C := p - 4) hA (by omega)
        omega
      · have t := hD.2.1 (p - 3) n2 n3
        rw [← n1] at t
        exact t
  · show a2 p = nI (if p < 4 then p else A) ∧ (if p < 4 then p else A) < 4
    by_cases e : p < 4
    · rw [if_pos e]
      exact ⟨(hD.1 p e).2, e⟩
    · rw [if_neg e]
      obtain ⟨n1, n2, n3⟩ := new p (by omega) hp
      have t := (hD.2.2.1 (p - 3 + 1) (by omega) (by omega)).1
      rw [← n1] at t
      exact ⟨t, hA⟩
  · refine lz_ov24 (d := if A = P then 1 else 0) hA hC hs1 hs (he A) hD.2.2.2.2.2.1 (fun k k1 k2 q hq => ?_) (H _ _ _ _ _ _ _ _ _ _ _ _ _ _ _ _ _)
    have t : c10 (lz_f A k * 11 + q) = nI (if (if lz_f A k < 4 then lz_f A k else A) = P then 1 else 0) := hc (lz_f A k) (lz_f_lt hA k2) q hq
    rw [t]
    have eL : (if lz_f A k < 4 then lz_f A k else A) = A := by
      by_cases e : k = 1
      · subst e
        rw [lz_f1, if_pos hA]
      · rw [if_neg]
        rw [show k = (k - 2) + 2 by omega, lz_f2]
        omega
    rw [eL]
theorem lz_ov_no {post : Int32 → St2 → Prop} {g0 g1 g2 g3 g4 g5 : Int32} {a1 a2 a3 a4 a5 a6 a7 a8 a9 a10 a11 : Nat → Int32} (h : g4 = 0 ∨ g1 = 0)
    (H : post 0 (g0, g1, g2, g3, g4, g5, a1, a2, a3, a4, a5, a6, a7, a8, a9, a10, a11)) :
    wpX_overlap post (g0, g1, g2, g3, g4, g5, a1, a2, a3, a4, a5, a6, a7, a8, a9, a10, a11) :=
  br_c (fun _ => H) (fun z => br_t (h.elim (fun w => absurd w z) id) H)
end
section
theorem lz_252 {mc ms kc ks : Nat} {x0 x3 x6 z0 z1 ro : Int32} {g0 g1 g2 g3 g4 g5 : Int32} {a1 a2 a3 a4 a5 a6 a7 a8 a9 a10 a11 : Nat → Int32}
    (ho : ∀ post : Int32 → St2 → Prop, (∀ h0 h1 h2 h3 h4 h5 b1 b2 b3 b4 b5 b6 b7 b8 b9 b10 b11, post ro (h0, h1, h2, h3, h4, h5, b1, b2, b3, b4, b5, b6, b7, b8, b9, b10, b11)) → wpX_overlap post (g0, g1, g2, g3, g4, g5, a1, a2, a3, a4, a5, a6, a7, a8, a9, a10, a11))
    (o1 : x6 = 0 → ro = 0) (o2 : ¬ x6 = 0 → x3 = x0 → ro = 1) (o3 : ¬ x6 = 0 → ¬ x3 = x0 → ro = 0) (hz : z1 = z0) :
    wL_lawOf_252 (fun r _ => r = 1) mc ms x0 x3 x6 z0 z1 kc ks g0 g1 g2 g3 g4 g5 a1 a2 a3 a4 a5 a6 a7 a8 a9 a10 a11 := by
  refine br_t hz (ho _ (fun h0 h1 h2 h3 h4 h5 b1 b2 b3 b4 b5 b6 b7 b8 b9 b10 b11 => ?_))
  refine br_c (fun h => ?_) (fun h => br_c (fun h' => ?_) (fun h' => ?_))
  · exact br_t (o1 h) rfl
  · exact br_t (o2 h h') rfl
  · exact br_t (o3 h h') rfl
theorem lz_tail {mc ms kc ks : Nat} {x0 x3 x4 x6 x9 x10 z0 z1 rl rf ro : Int32} {g0 g1 g2 g3 g4 g5 : Int32} {a1 a2 a3 a4 a5 a6 a7 a8 a9 a10 a11 : Nat → Int32}
    (hl : ∀ post : Int32 → Prop, post rl → wpX_letterAt post (g0, g1, g2, g3, g4, g5, a1, a2, a3, a4, a5, a6, a7, a8, a9, a10, a11) x4)
    (hf : ∀ post : Int32 → Prop, post rf → wpX_frequency post (g0, g1, g2, g3, g4, g5, a1, a2, a3, a4, a5, a6, a7, a8, a9, a10, a11) x3 x4)
    (ho : ∀ post : Int32 → St2 → Prop, (∀ h0 h1 h2 h3 h4 h5 b1 b2 b3 b4 b5 b6 b7 b8 b9 b10 b11, post ro (h0, h1, h2, h3, h4, h5, b1, b2, b3, b4, b5, b6, b7, b8, b9, b10, b11)) → wpX_overlap post (g0, g1, g2, g3, g4, g5, a1, a2, a3, a4, a5, a6, a7, a8, a9, a10, a11))
    (l1 : x4 < 0 → rl = -4) (l2 : ¬ x4 < 0 → x9 ≤ x4 → rl = -4) (l3 : ¬ x4 < 0 → ¬ x9 ≤ x4 → rl = x0)
    (f1 : x10 = 0 → rf = -1) (f2 : ¬ x10 = 0 → x3 = x0 → 0 ≤ x4 → x9 ≤ x4 → rf = x9) (f3 : ¬ x10 = 0 → x3 = x0 → 0 ≤ x4 → ¬ x9 ≤ x4 → rf = x4) (f4 : ¬ x10 = 0 → x3 = x0 → ¬ 0 ≤ x4 → rf = 0) (f5 : ¬ x10 = 0 → ¬ x3 = x0 → rf = 0)
    (o1 : x6 = 0 → ro = 0) (o2 : ¬ x6 = 0 → x3 = x0 → ro = 1) (o3 : ¬ x6 = 0 → ¬ x3 = x0 → ro = 0) (hz : z1 = z0) :
    wL_lawOf_172 (fun r _ => r = 1) mc ms x0 x3 x4 x6 x9 x10 z0 z1 kc ks g0 g1 g2 g3 g4 g5 a1 a2 a3 a4 a5 a6 a7 a8 a9 a10 a11 := by
  have k : ∀ y0 y1 : Int32, y1 = y0 → wL_lawOf_202 (fun r _ => r = 1) mc ms x0 x3 x4 x6 x9 x10 y0 y1 kc ks g0 g1 g2 g3 g4 g5 a1 a2 a3 a4 a5 a6 a7 a8 a9 a10 a11 := by
    intro y0 y1 hy
    refine br_t hy (hf _ ?_)
    refine br_c (fun h => lz_252 ho o1 o2 o3 (f1 h)) (fun h => br_c (fun h1 => br_c (fun h2 => br_c (fun h3 => lz_252 ho o1 o2 o3 (f2 h h1 h2 h3)) (fun h3 => lz_252 ho o1 o2 o3 (f3 h h1 h2 h3))) (fun h2 => ?_)) (fun h1 => ?_))
    · exact lz_252 ho o1 o2 o3 (f4 h h1 h2)
    · exact lz_252 ho o1 o2 o3 (f5 h h1)
  refine br_t hz (hl _ ?_)
  exact br_c (fun h => k _ _ (l1 h)) (fun h => br_c (fun h' => k _ _ (l2 h h')) (fun h' => k _ _ (l3 h h')))
theorem lz_135 {mc ms kc ks : Nat} {x0 x3 x4 x6 x9 z0 z1 : Int32} {g0 g1 g2 g3 g5 : Int32} {a1 a2 a3 a4 a5 a6 a7 a8 a9 a10 a11 : Nat → Int32} (hz : z1 = z0)
    (hno : (∀ P, P < 4 → x3 ≠ nI P) → (¬ x3 < 0 → ¬ x3 ≤ 3) → wL_lawOf_172 (fun r _ => r = 1) mc ms x0 x3 x4 x6 x9 0 (-1) (-1) kc ks g0 g1 g2 g3 0 g5 a1 a2 a3 a4 a5 a6 a7 a8 a9 a10 a11)
    (hyes : ∀ P, P < 4 → x3 = nI P → ∀ c8 c9 : Nat → Int32, (∀ q l, q ≤ 1 → l < 4 → c9 (q * 4 + l) = nI (if l = P then 1 else 0)) → wL_lawOf_172 (fun r _ => r = 1) mc ms x0 x3 x4 x6 x9 1 1 1 kc ks g0 g1 g2 g3 1 0 a1 a2 a3 a4 a5 a6 a7 c8 c9 a10 a11) :
    wL_lawOf_135 (fun r _ => r = 1) mc ms x0 x3 x4 x6 x9 z0 z1 kc ks g0 g1 g2 g3 0 g5 a1 a2 a3 a4 a5 a6 a7 a8 a9 a10 a11 := by
  refine br_t hz (br_c (fun h => ?_) (fun h => br_c (fun h' => ?_) (fun h' => ?_)))
  · unfold wL_lawOf_153 wL_lawOf_154
    refine lz_pt_no (fun z => absurd h z) ?_
    refine br_t rfl (hno (fun P hP e => ?_) (fun z => absurd h z))
    rw [e] at h
    exact nI_pos (by omega) h
  · have h3 : ¬ x3 ≤ 3 := Int32.not_le.mpr h'
    unfold wL_lawOf_153 wL_lawOf_154
    refine lz_pt_no (fun _ => h3) ?_
    refine br_t rfl (hno (fun P hP e => ?_) (fun _ => h3))
    rw [e] at h3
    exact h3 (nI_le (b := 3) (by omega) (by omega))
  · obtain ⟨P, hP, e⟩ := nI_of2 (M := 3) (n := 3) rfl h (Int32.not_lt.mp h')
    subst e
    exact lz_pt (by omega) (fun c8 c9 hc => br_f (by decide) (hyes P (by omega) rfl c8 c9 hc))
/-- no text -/
theorem lz_empty {mc ms kc ks : Nat} {x0 x3 x4 z0 z1 : Int32} {g0 g3 g5 : Int32} {a1 a2 a3 a4 a5 a6 a7 a8 a9 a10 a11 : Nat → Int32} (h0 : ∀ P, P < 4 → x0 ≠ nI P) (h7 : a7 0 = 0) (hz : z1 = z0) :
    wL_lawOf_135 (fun r _ => r = 1) mc ms x0 x3 x4 0 0 z0 z1 kc ks g0 0 0 g3 0 g5 a1 a2 a3 a4 a5 a6 a7 a8 a9 a10 a11 := by
  refine lz_135 hz (fun n1 n2 => ?_) (fun P hP e c8 c9 hc => ?_)
  · exact lz_tail (rl := -4) (rf := -1) (ro := 0) (fun post H => lz_la_no (fun z => z) H) (fun post H => lz_fr_no n2 H) (fun post H => lz_ov_no (Or.inl rfl) (H _ _ _ _ _ _ _ _ _ _ _ _ _ _ _ _ _))
      (fun _ => rfl) (fun _ _ => rfl) (fun z w => absurd (Int32.not_lt.mp z) w) (fun _ => rfl) (fun z => absurd rfl z) (fun z => absurd rfl z) (fun z => absurd rfl z) (fun z => absurd rfl z) (fun _ => rfl) (fun z => absurd rfl z) (fun z => absurd rfl z) rfl
  · subst e
    exact lz_tail (rl := -4) (rf := 0) (ro := 0) (fun post H => lz_la_no (fun z => z) H) (fun post H => lz_fr0 hP h7 H) (fun post H => lz_ov_no (Or.inr rfl) (H _ _ _ _ _ _ _ _ _ _ _ _ _ _ _ _ _))
      (fun _ => rfl) (fun _ _ => rfl) (fun z w => absurd (Int32.not_lt.mp z) w) (fun z => absurd z (by decide)) (fun _ z => absurd z.symm (h0 P hP)) (fun _ z => absurd z.symm (h0 P hP)) (fun _ _ _ => rfl) (fun _ _ => rfl) (fun _ => rfl) (fun z => absurd rfl z) (fun z => absurd rfl z) rfl
/-- a text of T letters A -/
theorem lz_full {mc ms kc ks A C s : Nat} {x3 x4 z0 z1 : Int32} {g5 : Int32} {a1 a2 a3 a4 a5 a6 a7 a8 a9 a10 a11 : Nat → Int32} (hA : A < 4) (hs1 : 1 ≤ s) (hs : s ≤ C + 1) (hT : lz_t C + s ≤ 120) (hD : lz_D A C a1 a2 a3 a4 a5 a6 a7) (hz : z1 = z0) :
    wL_lawOf_135 (fun r _ => r = 1) mc ms (nI A) x3 x4 1 (nI (lz_t C + s)) z0 z1 kc ks (nI (4 + C)) (nI (lz_t C + s)) (nI C) (nI (lz_f A s)) 0 g5 a1 a2 a3 a4 a5 a6 a7 a8 a9 a10 a11 := by
  refine lz_135 hz (fun n1 n2 => ?_) (fun P hP e c8 c9 hc => ?_)
  · obtain ⟨rl, l1, l2, l3, hl⟩ := lz_la2 (x := x4) (g0 := nI (4 + C)) (g4 := 0) (g5 := g5) (a8 := a8) (a9 := a9) (a10 := a10) (a11 := a11) hA hs1 hs hT hD
    exact lz_tail (rl := rl) (rf := -1) (ro := 0) hl (fun post H => lz_fr_no n2 H) (fun post H => lz_ov_no (Or.inl rfl) (H _ _ _ _ _ _ _ _ _ _ _ _ _ _ _ _ _))
      l1 l2 l3 (fun _ => rfl) (fun z => absurd rfl z) (fun z => absurd rfl z) (fun z => absurd rfl z) (fun z => absurd rfl z) (fun _ => rfl) (fun _ z => absurd z (n1 A hA)) (fun _ _ => rfl) rfl
  · subst e
    obtain ⟨rl, l1, l2, l3, hl⟩ := lz_la2 (x := x4) (g0 := nI (4 + C)) (g4 := 1) (g5 := 0) (a8 := c8) (a9 := c9) (a10 := a10) (a11 := a11) hA hs1 hs hT hD
    obtain ⟨k, f1, f2, f3, hf⟩ := lz_fr (x := x4) (g0 := nI (4 + C)) (g4 := 1) (g5 := 0) (a8 := c8) (a9 := c9) (a10 := a10) (a11 := a11) hA hP hs1 hs hT hD
    have eq : nI P = nI A → P = A := (nI_eq (by omega) (by omega)).mp
    have ne : ¬ nI P = nI A → ¬ P = A := fun z w => z (by rw [w])
    refine lz_tail (rl := rl) (rf := nI (if P = A then k else 0)) (ro := nI (if A = P then 1 else 0)) hl hf (fun post H => lz_ov hA hs1 hs hT hD hc H)
      l1 l2 l3 (fun z => absurd z (by decide)) (fun _ z y w => ?_) (fun _ z y w => ?_) (fun _ z y => ?_) (fun _ z => ?_) (fun z => absurd z (by decide)) (fun _ z => ?_) (fun _ z => ?_) rfl
    · rw [if_pos (eq z), f2 (Int32.not_lt.mpr y) w]
    · rw [if_pos (eq z), f3 (Int32.not_lt.mpr y) w]
    · rw [if_pos (eq z), f1 (Int32.not_le.mp y)]
      rfl
    · rw [if_neg (ne z)]
      rfl
    · rw [if_pos (eq z).symm]
      rfl
    · rw [if_neg (fun w => ne z w.symm)]
      rfl
theorem lz_rp_no {post : Int32 → St2 → Prop} {x1 x2 g0 g1 g2 g3 g4 g5 : Int32} {a1 a2 a3 a4 a5 a6 a7 a8 a9 a10 a11 : Nat → Int32} (h : ¬ x1 < 0 → ¬ x1 < g1) (H : post (-3) (g0, g1, g2, g3, g4, g5, a1, a2, a3, a4, a5, a6, a7, a8, a9, a10, a11)) : wpX_repeat post (g0, g1, g2, g3, g4, g5, a1, a2, a3, a4, a5, a6, a7, a8, a9, a10, a11) x1 x2 :=
  br_c (fun _ => br_c (fun _ => H) (fun z => br_f (h z) H)) (fun _ => br_c (fun _ => H) (fun z => br_f (h z) H))
/-- the law where the first cell is no letter -/
theorem lz_law0 {mc ms kc ks : Nat} {x0 x1 x2 x3 x4 : Int32} {g0 g3 g5 : Int32} {a1 a2 a3 a4 a5 a6 a7 a8 a9 a10 a11 : Nat → Int32} (h0 : ∀ P, P < 4 → x0 ≠ nI P) (h0' : ¬ x0 < 0 → ¬ x0 ≤ 3) (h7 : a7 0 = 0) :
    wL_lawOf_23 (fun r _ => r = 1) mc ms x0 x1 x2 x3 x4 0 kc ks g0 0 0 g3 0 g5 a1 a2 a3 a4 a5 a6 a7 a8 a9 a10 a11 := by
  have k : ∀ x7 : Int32, wL_lawOf_55 (fun r _ => r = 1) mc ms x0 x1 x2 x3 x4 0 x7 kc ks g0 0 0 g3 0 g5 a1 a2 a3 a4 a5 a6 a7 a8 a9 a10 a11 := by
    intro x7
    refine br_t rfl (br_t rfl ?_)
    refine lz_rp_no (fun z => z) (br_t rfl ?_)
    exact lz_empty h0 h7 rfl
  have m : wL_lawOf_41 (fun r _ => r = 1) mc ms x0 x1 x2 x3 x4 0 (-1) (-1) kc ks g0 0 0 g3 0 g5 a1 a2 a3 a4 a5 a6 a7 a8 a9 a10 a11 := br_t rfl (br_c (fun _ => k _) (fun _ => k _))
  exact br_c (fun _ => br_t rfl m) (fun z => br_f (h0' z) (br_t rfl m))
/-- the law where the first cell is the letter A -/
theorem lz_law1 {mc ms kc ks A : Nat} {x1 x2 x3 x4 : Int32} {g5 : Int32} {a1 a2 a3 a4 a5 a6 a7 a8 a9 a10 a11 : Nat → Int32} (hA : A < 4) (hi : lz_ini 4 a1 a2 a3 a4 a5) :
    wL_lawOf_23 (fun r _ => r = 1) mc ms (nI A) x1 x2 x3 x4 1 kc ks 4 0 0 (-1) 0 g5 a1 a2 a3 a4 a5 a6 a7 a8 a9 a10 a11 := by
  refine lz_app0 hA (br_f (by decide) (br_t rfl ?_))
  have hD : lz_D A 0 a1 a2 a3 a4 a5 a6 (upd a7 0 0) := lz_D_0 hA hi pk_us
  have k : ∀ M : Nat, M < 2 ^ 31 → (∀ post : Int32 → St2 → Prop, wX_repeat_9 post x1 (nI M) (nI (4 + 0)) (nI (lz_t 0 + 1)) (nI 0) (nI (lz_f A 1)) 0 0 a1 a2 a3 a4 a5 a6 (upd a7 0 0) a8 a9 a10 a11 → wpX_repeat post (nI (4 + 0), nI (lz_t 0 + 1), nI 0, nI (lz_f A 1), 0, 0, a1, a2, a3, a4, a5, a6, upd a7 0 0, a8, a9, a10, a11) x1 x2) →
      wL_lawOf_55 (fun r _ => r = 1) mc ms (nI A) x1 x2 x3 x4 1 (nI M) kc ks (nI (4 + 0)) (nI (lz_t 0 + 1)) (nI 0) (nI (lz_f A 1)) 0 0 a1 a2 a3 a4 a5 a6 (upd a7 0 0) a8 a9 a10 a11 := by
    intro M hM hr
    refine br_f (by decide) (br_c (fun e => ?_) (fun e => ?_))
    · subst e
      refine br_f (by decide) (br_f (by decide) (pk_lt 119 M (fun z => ?_) (fun z => ?_)))
      · refine hr _ (br_f (by decide) (br_t (by decide) (pk_le M 119 (fun w => absurd w (by omega)) (fun _ => ?_))))
        refine br_f (by decide) (pk_le M 119 (fun w => absurd w (by omega)) (fun _ => ?_))
        exact lz_full (C := 0) (s := 1) hA (by omega) (by omega) (by decide) hD rfl
      · refine hr _ (lz_rp9 hA z hD (fun C s g5' c1 c2 c3 c4 c5 c6 c7 s1 s2 eT hD' => ?_))
        refine br_f (by decide) (pk_le M 119 (fun _ => ?_) (fun w => absurd w (by omega)))
        have e1 : (1 : Int32) + nI M = nI (lz_t C + s) := by rw [eT, ← nI_add]; rfl
        rw [e1]
        exact lz_full hA s1 s2 (by omega) hD' rfl
    · refine br_f (by decide) (br_t rfl ?_)
      refine lz_rp_no (fun z w => ?_) (br_t rfl ?_)
      · obtain ⟨j, hj, rfl⟩ := nI_of z
        have w' := (nI_ltI hj (by decide)).mp w
        have w2 : j < 1 := w'
        exact e (by rw [show j = 0 by omega]; rfl)
      · exact lz_full (C := 0) (s := 1) hA (by omega) (by omega) (by decide) hD rfl
  refine br_c (fun h => ?_) (fun h => ?_)
  · obtain ⟨M, hM, rfl⟩ := nI_of (Int32.not_lt.mpr h)
    exact k M hM (fun post H => br_t h H)
  · exact k 0 (by omega) (fun post H => br_f h H)
theorem lz_lawOf (p0 p1 p2 p3 p4 : Int32) : wpL_lawOf (fun r _ => r = 1) 12 4536 () p0 p1 p2 p3 p4 := by
  refine ⟨by decide, by decide, 11, 4519, by decide, by decide, ?_⟩
  refine lz_init (by decide) (by decide) (fun c1 c2 c3 c4 c5 hi => ?_)
  refine br_c (fun h => ?_) (fun h => br_c (fun h' => ?_) (fun h' => ?_))
  · refine lz_law0 (fun P hP e => ?_) (fun z => absurd h z) rfl
    rw [e] at h
    exact nI_pos (by omega) h
  · have h3 : ¬ p0 ≤ 3 := Int32.not_le.mpr h'
    refine lz_law0 (fun P hP e => ?_) (fun _ => h3) rfl
    rw [e] at h3
    exact h3 (nI_le (b := 3) (by omega) (by omega))
  · obtain ⟨A, hA, e⟩ := nI_of2 (M := 3) (n := 3) rfl h (Int32.not_lt.mp h')
    subst e
    exact lz_law1 (by omega) hi
theorem lz_cell {post : Int32 → Prop} {L : Nat} {xs : Nat → Int32} {u : St0} (i : Nat) (hL : L ≤ 5) (hi : i ≤ 4) (H : ∀ r, post r) : wpL_cellAt post L xs u (nI i) :=
  pk_le L i (fun _ => H _) (fun z => ⟨pk_in i L z, H _⟩)
theorem i_vc (xs : Nat → Int32) (L : Nat) (hL : L ≤ 5) : wpL_law (fun r => r = 1) L xs := by
  refine lz_cell 0 hL (by omega) (fun r1 => lz_cell 1 hL (by omega) (fun r2 => lz_cell 2 hL (by omega) (fun r3 => lz_cell 3 hL (by omega) (fun r4 => lz_cell 4 hL (by omega) (fun r5 => ?_)))))
  exact ⟨12, 4536, by decide, by decide, lz_lawOf r1 r2 r3 r4 r5⟩
end
