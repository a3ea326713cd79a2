section
/-! 01: plain rows: updates, sums, the count of wanted places, two loop rules -/
def bs_up (f : Nat → Nat) (k x : Nat) : Nat → Nat := fun j => if j = k then x else f j
theorem bs_us {f : Nat → Nat} {k x : Nat} : bs_up f k x k = x := if_pos rfl
theorem bs_un {f : Nat → Nat} {k x j : Nat} (h : j ≠ k) : bs_up f k x j = f j := if_neg h
theorem bs_upE (f : Nat → Nat) (k x : Nat) : upd (fun d => nI (f d)) k (nI x) = fun d => nI (bs_up f k x d) := by
  funext d
  unfold upd bs_up
  by_cases h : d = k
  · rw [if_pos h, if_pos h]
  · rw [if_neg h, if_neg h]
/-- a store at a counted place of a counted value -/
theorem bs_upC {f : Nat → Nat} {i x : Int32} (k v : Nat) (hi : i = nI k) (hx : x = nI v) (hk : k < 2 ^ 31) : upd (fun d => nI (f d)) i.toNatClampNeg x = fun d => nI (bs_up f k v d) := by
  rw [hi, hx, nI_clamp hk]
  exact bs_upE f k v
theorem bs_upA {f : Nat → Int32} {i x y : Int32} (k : Nat) (hi : i = nI k) (hx : x = y) (hk : k < 2 ^ 31) : upd f i.toNatClampNeg x = upd f k y := by
  rw [hi, hx, nI_clamp hk]
/-- a place read -/
theorem bs_rd {f : Nat → Nat} {i : Int32} (k : Nat) (hi : i = nI k) (hk : k < 2 ^ 31) : nI (f i.toNatClampNeg) = nI (f k) := by
  rw [hi, nI_clamp hk]
theorem bs_ad {f g : Nat → Nat} {i : Int32} (k : Nat) (hi : i = nI k) (hk : k < 2 ^ 31) : nI (f i.toNatClampNeg) + nI (g i.toNatClampNeg) = nI (f k + g k) := by
  rw [hi, nI_clamp hk]
  exact nI_add _ _
def bs_sum (f : Nat → Nat) : Nat → Nat
  | 0 => 0
  | n + 1 => bs_sum f n + f n
theorem bs_sum_s (f : Nat → Nat) (n : Nat) : bs_sum f (n + 1) = bs_sum f n + f n := rfl
theorem bs_sum_ge {f : Nat → Nat} {n d : Nat} (h : d < n) : f d ≤ bs_sum f n := by
  induction n with
  | zero => omega
  | succ n ih =>
    rw [bs_sum_s]
    by_cases e : d = n
    · rw [e]; omega
    · have := ih (by omega)
      omega
theorem bs_sum_mono {f : Nat → Nat} {n m : Nat} (h : n ≤ m) : bs_sum f n ≤ bs_sum f m := by
  induction m with
  | zero => rw [show n = 0 by omega]; exact Nat.le_refl _
  | succ m ih =>
    rw [bs_sum_s]
    by_cases e : n = m + 1
    · rw [e, bs_sum_s]; omega
    · have := ih (by omega)
      omega
theorem bs_sum_eq {f g : Nat → Nat} {n : Nat} (h : ∀ d, d < n → f d = g d) : bs_sum f n = bs_sum g n := by
  induction n with
  | zero => rfl
  | succ n ih => rw [bs_sum_s, bs_sum_s, ih (fun d hd => h d (by omega)), h n (by omega)]
theorem bs_sum_up {f : Nat → Nat} {n j v : Nat} (h : j < n) : bs_sum (bs_up f j v) n + f j = bs_sum f n + v := by
  induction n with
  | zero => omega
  | succ n ih =>
    rw [bs_sum_s, bs_sum_s]
    by_cases e : j = n
    · subst e
      rw [bs_us, bs_sum_eq (g := f) (fun d hd => bs_un (by omega))]
      omega
    · rw [bs_un (by omega)]
      have := ih (by omega)
      omega
theorem bs_sum_out {f : Nat → Nat} {n j v : Nat} (h : n ≤ j) : bs_sum (bs_up f j v) n = bs_sum f n := bs_sum_eq (fun d hd => bs_un (by omega))
/-- how many of the n highest places of 144 are wanted -/
def bs_cU (w : Nat → Int32) : Nat → Nat
  | 0 => 0
  | n + 1 => bs_cU w n + (if w (143 - n) = 0 then 0 else 1)
theorem bs_cU_s (w : Nat → Int32) (n : Nat) : bs_cU w (n + 1) = bs_cU w n + (if w (143 - n) = 0 then 0 else 1) := rfl
theorem bs_cU_t {w : Nat → Int32} {n : Nat} (h : w (143 - n) = 0) : bs_cU w (n + 1) = bs_cU w n := by rw [bs_cU_s, if_pos h]; rfl
theorem bs_cU_f {w : Nat → Int32} {n : Nat} (h : ¬ w (143 - n) = 0) : bs_cU w (n + 1) = bs_cU w n + 1 := by rw [bs_cU_s, if_neg h]
theorem bs_cU_le (w : Nat → Int32) (n : Nat) : bs_cU w n ≤ n := by
  induction n with
  | zero => exact Nat.le_refl _
  | succ n ih =>
    rw [bs_cU_s]
    split <;> omega
theorem bs_cU_mono {w : Nat → Int32} {n m : Nat} (h : n ≤ m) : bs_cU w n ≤ bs_cU w m := by
  induction m with
  | zero => rw [show n = 0 by omega]; exact Nat.le_refl _
  | succ m ih =>
    by_cases e : n = m + 1
    · rw [e]; exact Nat.le_refl _
    · have := ih (by omega)
      rw [bs_cU_s]
      omega
theorem bs_cU_0 {w : Nat → Int32} (h : ∀ j, j < 144 → w j = 0) (n : Nat) : bs_cU w n = 0 := by
  induction n with
  | zero => rfl
  | succ n ih => rw [bs_cU_t (h _ (by omega)), ih]
theorem bs_cU_out {w : Nat → Int32} {j n : Nat} {x : Int32} (h : j + n < 144) : bs_cU (upd w j x) n = bs_cU w n := by
  induction n with
  | zero => rfl
  | succ n ih => rw [bs_cU_s, bs_cU_s, ih (by omega), pk_un (by omega)]
theorem bs_cU_up {w : Nat → Int32} {j n : Nat} {x : Int32} (h : n ≤ 144) : bs_cU (upd w j x) n ≤ bs_cU w n + 1 := by
  induction n with
  | zero => exact Nat.zero_le _
  | succ n ih =>
    by_cases e : 143 - n = j
    · rw [bs_cU_s, bs_cU_s, bs_cU_out (by omega)]
      split <;> split <;> omega
    · rw [bs_cU_s, bs_cU_s, pk_un e]
      have := ih (by omega)
      omega
/-- where a wanted place goes -/
def bs_T (w : Nat → Int32) (j : Nat) : Nat := 144 - bs_cU w (144 - j)
theorem bs_T_s {w : Nat → Int32} {j : Nat} (hj : j < 144) (h : ¬ w j = 0) : bs_T w (j + 1) = bs_T w j + 1 := by
  unfold bs_T
  have e : 144 - j = (144 - (j + 1)) + 1 := by omega
  rw [e, bs_cU_f (by rw [show 143 - (144 - (j + 1)) = j by omega]; exact h)]
  have := bs_cU_le w (144 - (j + 1))
  omega
theorem bs_T_add {w : Nat → Int32} {s n : Nat} (hs : s + n ≤ 144) (h : ∀ i, i < n → ¬ w (s + i) = 0) : ∀ i, i ≤ n → bs_T w (s + i) = bs_T w s + i := by
  intro i
  induction i with
  | zero => intro _; rfl
  | succ i ih =>
    intro hi
    rw [← Nat.add_assoc, bs_T_s (by omega) (h i (by omega)), ih (by omega)]
    omega
theorem bs_T_le (w : Nat → Int32) (j : Nat) : bs_T w j ≤ 144 := by unfold bs_T; omega
theorem bs_T_lo (w : Nat → Int32) (j : Nat) : 144 - bs_cU w 144 ≤ bs_T w j := by
  unfold bs_T
  have := bs_cU_mono (w := w) (show 144 - j ≤ 144 by omega)
  omega
/-- a loop whose end doesn't depend on what is asked of it -/
theorem bs_loop {σ τ ρ : Type} (W : ρ → Nat → σ → Prop) (E : ρ → τ → Prop) (I : σ → Prop) (Q : τ → Prop) (μ : σ → Nat)
    (hs : ∀ s, I s → (∃ t, Q t ∧ ∀ po n, E po t → W po (n + 1) s) ∨ (∃ s', I s' ∧ μ s' < μ s ∧ ∀ po n, W po n s' → W po (n + 1) s))
    (s : σ) (h : I s) : ∃ t, Q t ∧ ∀ po, E po t → ∃ n, W po n s := by
  have key : ∀ m s, μ s < m → I s → ∃ t, Q t ∧ ∀ po, E po t → ∃ n, W po n s := by
    intro m
    induction m with
    | zero => intro s hm; exact absurd hm (Nat.not_lt_zero _)
    | succ m ih =>
      intro s hm hI
      rcases hs s hI with ⟨t, hQ, hW⟩ | ⟨s', hI', hμ, hW⟩
      · exact ⟨t, hQ, fun po hE => ⟨1, hW po 0 hE⟩⟩
      · obtain ⟨t, hQ, hW'⟩ := ih s' (by omega) hI'
        exact ⟨t, hQ, fun po hE => (hW' po hE).elim (fun n hn => ⟨n + 1, hW po n hn⟩)⟩
  exact key (μ s + 1) s (Nat.lt_succ_self _) h
/-- the same for a counter -/
theorem bs_cnt {σ ρ : Type} (W : ρ → Nat → Nat → σ → Prop) (E : ρ → σ → Prop) (I : Nat → σ → Prop) (e : Nat)
    (hx : ∀ s, I e s → ∀ po n, E po s → W po (n + 1) e s)
    (hs : ∀ i s, i < e → I i s → ∃ s', I (i + 1) s' ∧ ∀ po n, W po n (i + 1) s' → W po (n + 1) i s)
    (i : Nat) (s : σ) (hi : i ≤ e) (h : I i s) : ∃ t, I e t ∧ ∀ po, E po t → ∃ n, W po n i s := by
  have key : ∀ m i s, e - i = m → i ≤ e → I i s → ∃ t, I e t ∧ ∀ po, E po t → ∃ n, W po n i s := by
    intro m
    induction m with
    | zero =>
      intro i s hm hi hI
      have : i = e := by omega
      subst this
      exact ⟨s, hI, fun po hE => ⟨1, hx s hI po 0 hE⟩⟩
    | succ m ih =>
      intro i s hm hi hI
      obtain ⟨s', hI', hW⟩ := hs i s (by omega) hI
      obtain ⟨t, hQ, hW'⟩ := ih (i + 1) s' (by omega) (by omega) hI'
      exact ⟨t, hQ, fun po hE => (hW' po hE).elim (fun n hn => ⟨n + 1, hW po n hn⟩)⟩
  exact key (e - i) i s rfl hi h
/-- the picture: piled, bottom, lengths, bodies -/
def bs_ok (p b : Nat) (ln bd : Nat → Nat) : Prop := p ≤ 4 ∧ b ≤ 144 ∧ (∀ d, d < 6 + p → ln d ≤ 40 ∧ bd d + ln d ≤ 144 ∧ (0 < ln d → b ≤ bd d)) ∧ bs_sum ln (6 + p) ≤ 100
/-- a state out of a picture -/
abbrev bs_st (k p b : Nat) (a1 : Nat → Int32) (ln bd : Nat → Nat) (a4 a5 a6 : Nat → Int32) : St1 := (nI k, nI p, nI b, a1, fun d => nI (ln d), fun d => nI (bd d), a4, a5, a6)
end
section
/-! 02: copy, mark, collect, take -/
theorem bs_copy {c1 c2 c3 : Int32} {a1 a2 a3 a4 a5 a6 : Nat → Int32} {f t n : Nat} (hf : f + n ≤ 144) (ht : t + n ≤ 144) :
    ∃ a4' : Nat → Int32, (∀ j, (j < t ∨ t + n ≤ j) → a4' j = a4 j) ∧ ∀ post : St1 → Prop, post (c1, c2, c3, a1, a2, a3, a4', a5, a6) → wpX_copy post (c1, c2, c3, a1, a2, a3, a4, a5, a6) (nI f) (nI t) (nI n) :=
  bs_cnt (fun (post : St1 → Prop) m i s => wX_copy_3 post (nI f) (nI t) (nI n) c1 c2 c3 m (nI i) a1 a2 a3 s a5 a6) (fun post s => post (c1, c2, c3, a1, a2, a3, s, a5, a6)) (fun i s => ∀ j, (j < t ∨ t + n ≤ j) → s j = a4 j) n
    (fun s _ po m h => pk_le n n (fun _ => h) (fun z => absurd z (by omega)))
    (fun i s hi h => ⟨upd s (t + i) (s (f + i)), fun j hj => by rw [pk_un (by omega)]; exact h j hj, fun po m hw =>
      pk_le n i (fun z => absurd z (by omega)) (fun _ => ⟨pk_in (f + i) 144 (by omega) (nI_add f i), pk_in (t + i) 144 (by omega) (nI_add t i), nm_r (by rw [nI_add, nI_add, nI_clamp (by omega), nI_clamp (by omega)]) (nm_r (nI_1 i) hw)⟩)⟩)
    0 a4 (by omega) (fun _ _ => rfl)
theorem bs_mark48 {K P B : Int32} {a1 a4 a6 : Nat → Int32} {ln bd : Nat → Nat} {d : Nat} (hd : d < 10) (hb : bd d + ln d ≤ 144) (s0 : Nat → Int32) :
    ∃ s : Nat → Int32, ((∀ j, ¬ s0 j = 0 → ¬ s j = 0) ∧ (∀ i, i < ln d → ¬ s (bd d + i) = 0) ∧ bs_cU s 144 ≤ bs_cU s0 144 + ln d) ∧ ∀ po : (St1 → Prop) × (Int32 → (Nat → Int32) → (Nat → Int32) → (Nat → Int32) → (Nat → Int32) → (Nat → Int32) → (Nat → Int32) → Prop), po.2 (nI (d + 1)) a1 (fun d => nI (ln d)) (fun d => nI (bd d)) a4 s a6 →
      ∃ n, wX_mark_48 po.1 po.2 (nI d) K P B n (nI (bd d)) a1 (fun d => nI (ln d)) (fun d => nI (bd d)) a4 s0 a6 :=
  bs_cnt (fun (po : (St1 → Prop) × (Int32 → (Nat → Int32) → (Nat → Int32) → (Nat → Int32) → (Nat → Int32) → (Nat → Int32) → (Nat → Int32) → Prop)) m i s => wX_mark_48 po.1 po.2 (nI d) K P B m (nI (bd d + i)) a1 (fun d => nI (ln d)) (fun d => nI (bd d)) a4 s a6)
    (fun po s => po.2 (nI (d + 1)) a1 (fun d => nI (ln d)) (fun d => nI (bd d)) a4 s a6)
    (fun i s => (∀ j, ¬ s0 j = 0 → ¬ s j = 0) ∧ (∀ i', i' < i → ¬ s (bd d + i') = 0) ∧ bs_cU s 144 ≤ bs_cU s0 144 + i) (ln d)
    (fun s _ po m h => ⟨pk_in d 10 hd, pk_in d 10 hd, pk_le (bd d + ln d) (bd d + ln d) (fun _ => nm_r (nI_1 d) h) (fun z => absurd z (by omega)) (bs_ad d rfl (by omega))⟩)
    (fun i s hi h => ⟨upd s (bd d + i) 1, ⟨fun j hj => by
        by_cases e : j = bd d + i
        · rw [e, pk_us]; decide
        · rw [pk_un e]; exact h.1 j hj, fun i' hi' => by
        by_cases e : i' = i
        · rw [e, pk_us]; decide
        · rw [pk_un (by omega)]; exact h.2.1 i' (by omega), by
        have h1 := bs_cU_up (w := s) (j := bd d + i) (x := 1) (n := 144) (Nat.le_refl _)
        have h2 := h.2.2
        omega⟩, fun po m hw =>
      ⟨pk_in d 10 hd, pk_in d 10 hd, pk_le (bd d + ln d) (bd d + i) (fun z => absurd z (by omega)) (fun _ => ⟨pk_in (bd d + i) 144 (by omega), nm_r (by rw [nI_clamp (by omega)]) (nm_r (nI_1 (bd d + i)) hw)⟩) (bs_ad d rfl (by omega))⟩⟩)
    0 s0 (by omega) ⟨fun _ h => h, fun _ h => absurd h (by omega), by omega⟩
theorem bs_mark24 {K B : Int32} {a1 a4 a6 : Nat → Int32} {ln bd : Nat → Nat} {p : Nat} (hp : p ≤ 4) (hb : ∀ d, d < 6 + p → bd d + ln d ≤ 144) (s0 : Nat → Int32) (h0 : ∀ j, j < 144 → s0 j = 0) :
    ∃ s : Nat → Int32, ((∀ d, d < 10 → d < 6 + p → ∀ i, i < ln d → ¬ s (bd d + i) = 0) ∧ bs_cU s 144 ≤ bs_sum ln (min 10 (6 + p))) ∧ ∀ post : St1 → Prop, post (K, nI p, B, a1, (fun d => nI (ln d)), (fun d => nI (bd d)), a4, s, a6) →
      ∃ n, wX_mark_24 post K (nI p) B n 0 a1 (fun d => nI (ln d)) (fun d => nI (bd d)) a4 s0 a6 := by
  refine bs_cnt (fun (post : St1 → Prop) m d s => wX_mark_24 post K (nI p) B m (nI d) a1 (fun d => nI (ln d)) (fun d => nI (bd d)) a4 s a6)
    (fun post s => post (K, nI p, B, a1, (fun d => nI (ln d)), (fun d => nI (bd d)), a4, s, a6))
    (fun d s => (∀ d', d' < d → d' < 6 + p → ∀ i, i < ln d' → ¬ s (bd d' + i) = 0) ∧ bs_cU s 144 ≤ bs_sum ln (min d (6 + p))) 10
    (fun s _ po m h => pk_le 10 10 (fun _ => h) (fun z => absurd z (by omega))) (fun d s hd h => ?_) 0 s0 (by omega) ⟨fun _ h => absurd h (by omega), by rw [bs_cU_0 h0]; exact Nat.zero_le _⟩
  by_cases hs : 6 + p ≤ d
  · refine ⟨s, ⟨fun d' h1 h2 => h.1 d' (by omega) h2, ?_⟩, fun po m hw => pk_le 10 d (fun z => absurd z (by omega)) (fun _ => pk_le (6 + p) d (fun _ => nm_r (nI_1 d) hw) (fun z => absurd z (by omega)) (nI_add 6 p))⟩
    rw [show min (d + 1) (6 + p) = min d (6 + p) by omega]
    exact h.2
  · obtain ⟨s', ⟨q1, q2, q3⟩, q4⟩ := bs_mark48 (K := K) (P := nI p) (B := B) (a1 := a1) (a4 := a4) (a6 := a6) hd (hb d (by omega)) s
    refine ⟨s', ⟨fun d' h1 h2 i hi => ?_, ?_⟩, fun po m hw => pk_le 10 d (fun z => absurd z (by omega)) (fun _ => pk_le (6 + p) d (fun z => absurd z (by omega)) (fun _ => ⟨pk_in d 10 hd, nm_r (bs_rd d rfl (by omega)) (q4 (po, _) hw)⟩) (nI_add 6 p))⟩
    · by_cases e : d' = d
      · subst e; exact q2 i hi
      · exact q1 _ (h.1 d' (by omega) h2 i hi)
    · have := h.2
      rw [show min d (6 + p) = d by omega] at this
      rw [show min (d + 1) (6 + p) = d + 1 by omega, bs_sum_s]
      omega
theorem bs_mark {k p b : Nat} {a1 a4 a5 a6 : Nat → Int32} {ln bd : Nat → Nat} (hp : p ≤ 4) (hb : ∀ d, d < 6 + p → bd d + ln d ≤ 144) :
    ∃ w : Nat → Int32, (∀ d, d < 6 + p → ∀ i, i < ln d → ¬ w (bd d + i) = 0) ∧ bs_cU w 144 ≤ bs_sum ln (6 + p) ∧ ∀ post : St1 → Prop, post (bs_st k p b a1 ln bd a4 w a6) → wpX_mark post (bs_st k p b a1 ln bd a4 a5 a6) := by
  obtain ⟨s0, q1, q2⟩ := bs_cnt (fun (post : St1 → Prop) m i s => wX_mark_2 post (nI k) (nI p) (nI b) m (nI i) a1 (fun d => nI (ln d)) (fun d => nI (bd d)) a4 s a6)
    (fun post s => ∃ n, wX_mark_24 post (nI k) (nI p) (nI b) n 0 a1 (fun d => nI (ln d)) (fun d => nI (bd d)) a4 s a6)
    (fun i s => ∀ j, j < i → s j = 0) 144
    (fun s _ po m h => pk_le 144 144 (fun _ => h) (fun z => absurd z (by omega)))
    (fun i s hi h => ⟨upd s i 0, fun j hj => by
        by_cases e : j = i
        · rw [e, pk_us]
        · rw [pk_un e]; exact h j (by omega), fun po m hw =>
      pk_le 144 i (fun z => absurd z (by omega)) (fun _ => ⟨pk_in i 144 hi, nm_r (by rw [nI_clamp (by omega)]) (nm_r (nI_1 i) hw)⟩)⟩)
    0 a5 (by omega) (fun _ h => absurd h (by omega))
  obtain ⟨w, ⟨r1, r2⟩, r3⟩ := bs_mark24 (K := nI k) (B := nI b) (a1 := a1) (a4 := a4) (a6 := a6) hp hb s0 q1
  rw [show min 10 (6 + p) = 6 + p by omega] at r2
  exact ⟨w, fun d hd => r1 d (by omega) hd, r2, fun post h => q2 post (r3 post h)⟩
/-- the slide: the wanted ones to the top -/
theorem bs_slide {K P B : Int32} {a1 a2 a3 a4 w a6 : Nat → Int32} :
    ∃ s : (Nat → Int32) × (Nat → Int32), (∀ j, j < 144 → ¬ w j = 0 → s.1 (bs_T w j) = a4 j ∧ s.2 j = nI (bs_T w j)) ∧ ∀ post : St1 → Prop, (∃ n, wX_collect_60 post K P (nI (144 - bs_cU w 144)) n 0 a1 a2 a3 s.1 w s.2) →
      ∃ n, wX_collect_12 post K P B n 144 143 a1 a2 a3 a4 w a6 := by
  refine Exists.elim (bs_cnt (fun (post : St1 → Prop) n m (s : (Nat → Int32) × (Nat → Int32)) => wX_collect_12 post K P B n (nI (144 - bs_cU w m)) (nI (144 - m) + (-1)) a1 a2 a3 s.1 w s.2)
    (fun post s => ∃ n, wX_collect_60 post K P (nI (144 - bs_cU w 144)) n 0 a1 a2 a3 s.1 w s.2)
    (fun m s => (∀ j, j < 144 - bs_cU w m → s.1 j = a4 j) ∧ (∀ j, 144 - m ≤ j → j < 144 → ¬ w j = 0 → s.1 (bs_T w j) = a4 j ∧ s.2 j = nI (bs_T w j))) 144
    (fun s _ po n h => br_t (by decide) h) (fun m s hm h => ?_) 0 (a4, a6) (by omega) ⟨fun _ _ => rfl, fun j h1 h2 => absurd h1 (by omega)⟩) (fun s hq => ⟨s, fun j hj => hq.1.2 j (by omega) hj, fun post h => hq.2 post h⟩)
  · have e1 : nI (144 - m) + (-1) = nI (143 - m) := by rw [sb_m1 (by omega), show 144 - m - 1 = 143 - m by omega]
    have e2 : nI (143 - m) + (-1) = nI (144 - (m + 1)) + (-1) := by rw [show 143 - m = 144 - (m + 1) by omega]
    have hc := bs_cU_le w m
    by_cases hw : w (143 - m) = 0
    · refine ⟨s, ⟨?_, fun j h1 h2 h3 => ?_⟩, fun po n hW => ?_⟩
      · rw [bs_cU_t hw]; exact h.1
      · by_cases e : j = 143 - m
        · rw [e] at h3; exact absurd hw h3
        · exact h.2 j (by omega) h2 h3
      · rw [bs_cU_t hw] at hW
        show wX_collect_12 po K P B (n + 1) (nI (144 - bs_cU w m)) (nI (144 - m) + (-1)) a1 a2 a3 s.1 w s.2
        rw [e1]
        refine br_f (nI_pos (by omega)) ⟨pk_in (143 - m) 144 (by omega), br_t (by rw [nI_clamp (by omega)]; exact hw) (nm_r e2 hW)⟩
    · have e3 : nI (144 - bs_cU w m) + (-1) = nI (144 - bs_cU w (m + 1)) := by
        rw [sb_m1 (by omega), bs_cU_f hw, Nat.sub_sub]
      refine ⟨(upd s.1 (144 - bs_cU w (m + 1)) (s.1 (143 - m)), upd s.2 (143 - m) (nI (144 - bs_cU w (m + 1)))), ⟨fun j hj => ?_, fun j h1 h2 h3 => ?_⟩, fun po n hW => ?_⟩
      · show upd s.1 _ _ j = _
        have := bs_cU_f hw
        rw [pk_un (by omega)]
        exact h.1 j (by omega)
      · show upd s.1 _ _ (bs_T w j) = _ ∧ upd s.2 _ _ j = _
        have hf := bs_cU_f hw
        by_cases e : j = 143 - m
        · have eT : bs_T w j = 144 - bs_cU w (m + 1) := by
            unfold bs_T; rw [show 144 - j = m + 1 by omega]
          rw [eT, pk_us, e, pk_us]
          exact ⟨h.1 _ (by omega), rfl⟩
        · have hT : 144 - bs_cU w m ≤ bs_T w j := by
            unfold bs_T
            have := bs_cU_mono (w := w) (show 144 - j ≤ m by omega)
            omega
          rw [pk_un (by omega), pk_un e]
          exact h.2 j (by omega) h2 h3
      · have hf := bs_cU_f hw
        show wX_collect_12 po K P B (n + 1) (nI (144 - bs_cU w m)) (nI (144 - m) + (-1)) a1 a2 a3 s.1 w s.2
        rw [e1]
        refine br_f (nI_pos (by omega)) ⟨pk_in (143 - m) 144 (by omega), br_f (by rw [nI_clamp (by omega)]; exact hw) (nm_r e3 ⟨pk_in (143 - m) 144 (by omega), pk_in (144 - bs_cU w (m + 1)) 144 (by omega), nm_r (by rw [nI_clamp (by omega), nI_clamp (by omega)]) ⟨pk_in (143 - m) 144 (by omega), nm_r (by rw [nI_clamp (by omega)]) (nm_r e2 hW)⟩⟩)⟩
theorem bs_rebody {K B : Int32} {a1 a4 w a6 : Nat → Int32} {ln bd : Nat → Nat} {p : Nat} (hp : p ≤ 4) (hb : ∀ d, d < 6 + p → bd d + ln d ≤ 144) (h6 : ∀ d, d < 6 + p → 0 < ln d → a6 (bd d) = nI (bs_T w (bd d))) :
    ∃ g : Nat → Nat, (∀ d, g d = if d < 10 ∧ d < 6 + p ∧ 0 < ln d then bs_T w (bd d) else bd d) ∧ ∀ post : St1 → Prop, post (K, nI p, B, a1, (fun d => nI (ln d)), (fun d => nI (g d)), a4, w, a6) →
      ∃ n, wX_collect_60 post K (nI p) B n 0 a1 (fun d => nI (ln d)) (fun d => nI (bd d)) a4 w a6 := by
  refine bs_cnt (fun (post : St1 → Prop) m d (g : Nat → Nat) => wX_collect_60 post K (nI p) B m (nI d) a1 (fun d => nI (ln d)) (fun d => nI (g d)) a4 w a6)
    (fun post g => post (K, nI p, B, a1, (fun d => nI (ln d)), (fun d => nI (g d)), a4, w, a6))
    (fun d g => ∀ d', g d' = if d' < d ∧ d' < 6 + p ∧ 0 < ln d' then bs_T w (bd d') else bd d') 10
    (fun s _ po m h => pk_le 10 10 (fun _ => h) (fun z => absurd z (by omega))) (fun d g hd h => ?_) 0 bd (by omega) (fun d' => by rw [if_neg (by omega)])
  by_cases hs : 6 + p ≤ d
  · refine ⟨g, fun d' => ?_, fun po m hw => pk_le 10 d (fun z => absurd z (by omega)) (fun _ => pk_le (6 + p) d (fun _ => nm_r (nI_1 d) hw) (fun z => absurd z (by omega)) (nI_add 6 p))⟩
    rw [h d']
    by_cases c : d' < d ∧ d' < 6 + p ∧ 0 < ln d'
    · rw [if_pos c, if_pos (by omega)]
    · rw [if_neg c, if_neg (by omega)]
  · have hbd := hb d (by omega)
    have hg : g d = bd d := by rw [h d, if_neg (by omega)]
    by_cases hl : ln d ≤ 0
    · refine ⟨g, fun d' => ?_, fun po m hw => pk_le 10 d (fun z => absurd z (by omega)) (fun _ => pk_le (6 + p) d (fun z => absurd z (by omega)) (fun _ => ⟨pk_in d 10 hd, pk_le (ln d) 0 (fun _ => nm_r (nI_1 d) hw) (fun z => absurd z (by omega)) (bs_rd d rfl (by omega))⟩) (nI_add 6 p))⟩
      rw [h d']
      by_cases c : d' < d ∧ d' < 6 + p ∧ 0 < ln d'
      · rw [if_pos c, if_pos (by omega)]
      · rw [if_neg c, if_neg (fun c2 => c ⟨by
          by_cases e : d' = d
          · rw [e] at c2; omega
          · omega, c2.2⟩)]
    · have er : (fun d => nI (g d)) (nI d).toNatClampNeg = nI (bd d) := by
        show nI (g (nI d).toNatClampNeg) = nI (bd d)
        rw [nI_clamp (by omega), hg]
      refine ⟨bs_up g d (bs_T w (bd d)), fun d' => ?_, fun po m hw => pk_le 10 d (fun z => absurd z (by omega)) (fun _ => pk_le (6 + p) d (fun z => absurd z (by omega)) (fun _ => ⟨pk_in d 10 hd, pk_le (ln d) 0 (fun z => absurd z (by omega)) (fun _ => ⟨pk_in d 10 hd, pk_in (bd d) 144 (by omega) er, pk_in d 10 hd, nm_r (bs_upC d (bs_T w (bd d)) rfl ?_ (by omega)) (nm_r (nI_1 d) hw)⟩) (bs_rd d rfl (by omega)) (by rfl) (by omega)⟩) (nI_add 6 p))⟩
      · by_cases e : d' = d
        · rw [e, bs_us, if_pos (by omega)]
        · rw [bs_un e, h d']
          by_cases c : d' < d ∧ d' < 6 + p ∧ 0 < ln d'
          · rw [if_pos c, if_pos (by omega)]
          · rw [if_neg c, if_neg (by omega)]
      · show a6 (nI (g (nI d).toNatClampNeg)).toNatClampNeg = _
        rw [nI_clamp (show d < 2 ^ 31 by omega), hg, nI_clamp (by omega)]
        exact h6 d (by omega) (by omega)
theorem bs_collect {k p b : Nat} {a1 a4 a5 a6 : Nat → Int32} {ln bd : Nat → Nat} (h : bs_ok p b ln bd) :
    ∃ (b' : Nat) (bd' : Nat → Nat) (a4' a5' a6' : Nat → Int32), bs_ok p b' ln bd' ∧ 44 ≤ b' ∧ (∀ d, d < 6 + p → ∀ i, i < ln d → a4' (bd' d + i) = a4 (bd d + i)) ∧
      ∀ post : St1 → Prop, post (bs_st k p b' a1 ln bd' a4' a5' a6') → wpX_collect post (bs_st k p b a1 ln bd a4 a5 a6) := by
  obtain ⟨hp, hb, hd, hs⟩ := h
  obtain ⟨w, m1, m2, m3⟩ := bs_mark (k := k) (b := b) (a1 := a1) (a4 := a4) (a5 := a5) (a6 := a6) hp (fun d h => (hd d h).2.1)
  obtain ⟨s, s1, s2⟩ := bs_slide (K := nI k) (P := nI p) (B := nI b) (a1 := a1) (a2 := fun d => nI (ln d)) (a3 := fun d => nI (bd d)) (a4 := a4) (w := w) (a6 := a6)
  obtain ⟨g, g1, g2⟩ := bs_rebody (K := nI k) (B := nI (144 - bs_cU w 144)) (a1 := a1) (a4 := s.1) (w := w) (a6 := s.2) hp (fun d h => (hd d h).2.1)
    (fun d h h0 => (s1 (bd d) (by have := (hd d h).2.1; omega) (by have := m1 d h 0 h0; exact this)).2)
  have eg : ∀ d, d < 6 + p → 0 < ln d → g d = bs_T w (bd d) := fun d h h0 => by rw [g1 d, if_pos (by omega)]
  have eT : ∀ d, d < 6 + p → ∀ i, i ≤ ln d → bs_T w (bd d + i) = bs_T w (bd d) + i := fun d h => bs_T_add (hd d h).2.1 (m1 d h)
  have hc := bs_cU_le w 144
  refine ⟨144 - bs_cU w 144, g, s.1, w, s.2, ⟨hp, by omega, fun d h => ⟨(hd d h).1, ?_, fun h0 => ?_⟩, hs⟩, by omega, fun d h i hi => ?_, fun post hpost => m3 _ (s2 post (g2 post hpost))⟩
  · by_cases h0 : 0 < ln d
    · rw [eg d h h0, ← eT d h (ln d) (Nat.le_refl _)]
      exact bs_T_le _ _
    · rw [g1 d, if_neg (by omega)]
      exact (hd d h).2.1
  · rw [eg d h h0]
    exact bs_T_lo _ _
  · rw [eg d h (by omega), ← eT d h i (by omega)]
    exact (s1 _ (by have := (hd d h).2.1; omega) (m1 d h i hi)).1
theorem bs_take {k p b n : Nat} {a1 a4 a5 a6 : Nat → Int32} {ln bd : Nat → Nat} (h : bs_ok p b ln bd) (hn : n ≤ 44) :
    ∃ (z : Nat) (bd' : Nat → Nat) (a4' a5' a6' : Nat → Int32), bs_ok p (z + n) ln bd' ∧ (∀ d, d < 6 + p → ∀ i, i < ln d → a4' (bd' d + i) = a4 (bd d + i)) ∧
      ∀ post : Int32 → St1 → Prop, post (nI z) (bs_st k p z a1 ln bd' a4' a5' a6') → wpX_take post (bs_st k p b a1 ln bd a4 a5 a6) (nI n) := by
  have hb := h.2.1
  by_cases hc : n ≤ b
  · refine ⟨b - n, bd, a4, a5, a6, ?_, fun _ _ _ _ => rfl, fun post hp => br_t (nI_le hc (by omega)) (nm_r (pk_sub hc) hp)⟩
    rw [Nat.sub_add_cancel hc]
    exact h
  · obtain ⟨b', bd', a4', a5', a6', h1, h2, h3, h4⟩ := bs_collect (k := k) (a1 := a1) (a4 := a4) (a5 := a5) (a6 := a6) h
    refine ⟨b' - n, bd', a4', a5', a6', ?_, h3, fun post hp => br_f (nI_ge (by omega) (by omega)) (h4 _ (nm_r (pk_sub (by omega)) hp))⟩
    rw [Nat.sub_add_cancel (by omega)]
    exact h1
end
section
/-! 03: the small methods, and what a call keeps -/
section
variable {k p b q : Nat} {a1 a4 a5 a6 : Nat → Int32} {ln bd : Nat → Nat}
theorem bs_bv {post : Int32 → Prop} {u : St1} {v : Nat} (hv : v < 6) (h : post 0) : wpX_badVariable post u (nI v) := by
  obtain ⟨k, p, b, a1, a2, a3, a4, a5, a6⟩ := u
  exact br_f (nI_pos (by omega)) (br_t (nI_lt (b := 6) hv (by decide)) h)
theorem bs_bb {post : Int32 → Prop} {u : St1} {n : Nat} (hn : n ≤ 255) (h : post 0) : wpX_badByte post u (nI n) := by
  obtain ⟨k, p, b, a1, a2, a3, a4, a5, a6⟩ := u
  exact br_f (nI_pos (by omega)) (br_t (nI_le (b := 255) hn (by decide)) h)
theorem bs_tp (q : Nat) : (6 + nI (q + 1)) - 1 = nI (6 + q) := by
  rw [show (6 : Int32) = nI 6 from rfl, nI_add]
  exact nI_pred (6 + q)
theorem bs_top {post : Int32 → Prop} {c1 c3 : Int32} {b1 b2 b3 b4 b5 b6 : Nat → Int32} (h : post (nI (6 + q))) : wpX_top post (c1, nI (q + 1), c3, b1, b2, b3, b4, b5, b6) := by
  show post ((6 + nI (q + 1)) - 1)
  rw [bs_tp]
  exact h
theorem bs_used {post : Int32 → Prop} (hp : p ≤ 4) (h : post (nI (bs_sum ln (6 + p)))) : wpX_used post (bs_st k p b a1 ln bd a4 a5 a6) :=
  pk_loop (σ := Unit) (fun n i _ => wX_used_4 post (nI k) (nI p) (nI b) a1 (fun d => nI (ln d)) (fun d => nI (bd d)) a4 a5 a6 n (nI (bs_sum ln i)) (nI i)) (fun _ _ => True) (6 + p) 0 () (by omega) trivial
    (fun n _ _ => pk_le (6 + p) (6 + p) (fun _ => h) (fun z => absurd z (by omega)) (nI_add 6 p))
    (fun n i _ hi _ hw => pk_le (6 + p) i (fun z => absurd z (by omega)) (fun _ => ⟨pk_in i 10 (by omega), nm_r (by
      show nI (bs_sum ln i) + nI (ln (nI i).toNatClampNeg) = nI (bs_sum ln (i + 1))
      rw [nI_clamp (by omega)]
      exact nI_add _ _) (nm_r (nI_1 i) (hw () trivial))⟩) (nI_add 6 p))
theorem bs_refuse {n : Nat} (hp : p ≤ 4) (hn : n ≤ 255) (hs : bs_sum ln (6 + p) ≤ 100) : ∃ r : Int32, ((r = 0 ∧ p < 4 ∧ n ≤ 40 ∧ bs_sum ln (6 + p) + n ≤ 100) ∨ ¬ 0 ≤ r) ∧ ∀ post : Int32 → Prop, post r → wpX_refuse post (bs_st k p b a1 ln bd a4 a5 a6) (nI n) := by
  by_cases h4 : p = 4
  · exact ⟨-2, Or.inr (by decide), fun post h => pk_eq p 4 (fun _ => h) (fun z => absurd h4 z)⟩
  · by_cases h40 : n ≤ 40
    · by_cases h100 : bs_sum ln (6 + p) + n ≤ 100
      · exact ⟨0, Or.inl ⟨rfl, by omega, h40, h100⟩, fun post h => pk_eq p 4 (fun z => absurd z h4) (fun _ => pk_le n 40 (fun _ => bs_used hp (pk_le (bs_sum ln (6 + p) + n) 100 (fun _ => h) (fun z => absurd z (by omega)) (nI_add _ _))) (fun z => absurd z (by omega)))⟩
      · exact ⟨-2, Or.inr (by decide), fun post h => pk_eq p 4 (fun z => absurd z h4) (fun _ => pk_le n 40 (fun _ => bs_used hp (pk_le (bs_sum ln (6 + p) + n) 100 (fun z => absurd z h100) (fun _ => h) (nI_add _ _))) (fun z => absurd z (by omega)))⟩
    · exact ⟨-5, Or.inr (by decide), fun post h => pk_eq p 4 (fun z => absurd z h4) (fun _ => pk_le n 40 (fun z => absurd z h40) (fun _ => h))⟩
theorem bs_pushBody {post : St1 → Prop} {z n : Nat} (hp : p < 4) (hn : n ≤ 255) (h : post (bs_st k (p + 1) b a1 (bs_up ln (6 + p) n) (bs_up bd (6 + p) (if n = 0 then 0 else z)) a4 a5 a6)) : wpX_pushBody post (bs_st k p b a1 ln bd a4 a5 a6) (nI z) (nI n) :=
  nm_r (nI_1 p) (bs_top (pk_eq n 0
    (fun e => ⟨pk_in (6 + p) 10 (by omega), nm_r (bs_upC (6 + p) 0 rfl rfl (by omega)) ⟨pk_in (6 + p) 10 (by omega), nm_r (bs_upC (6 + p) n rfl rfl (by omega)) (by rw [if_pos e] at h; exact h)⟩⟩)
    (fun e => ⟨pk_in (6 + p) 10 (by omega), nm_r (bs_upC (6 + p) z rfl rfl (by omega)) ⟨pk_in (6 + p) 10 (by omega), nm_r (bs_upC (6 + p) n rfl rfl (by omega)) (by rw [if_neg e] at h; exact h)⟩⟩)))
theorem bs_ok_lo {b' : Nat} (h : bs_ok p b ln bd) (hb : b' ≤ b) : bs_ok p b' ln bd :=
  ⟨h.1, Nat.le_trans hb h.2.1, fun d hd => ⟨(h.2.2.1 d hd).1, (h.2.2.1 d hd).2.1, fun h0 => Nat.le_trans hb ((h.2.2.1 d hd).2.2 h0)⟩, h.2.2.2⟩
theorem bs_ok_dn (h : bs_ok (q + 1) b ln bd) : bs_ok q b ln bd :=
  ⟨Nat.le_of_succ_le h.1, h.2.1, fun d hd => h.2.2.1 d (by omega), Nat.le_trans (bs_sum_mono (by omega)) h.2.2.2⟩
theorem bs_ok_push {z n : Nat} (h : bs_ok p b ln bd) (hp : p < 4) (hn : n ≤ 40) (hs : bs_sum ln (6 + p) + n ≤ 100) (hz : z + n ≤ 144) (hb : 0 < n → b ≤ z) : bs_ok (p + 1) b (bs_up ln (6 + p) n) (bs_up bd (6 + p) (if n = 0 then 0 else z)) := by
  refine ⟨by omega, h.2.1, fun d hd => ?_, ?_⟩
  · by_cases e : d = 6 + p
    · rw [e, bs_us, bs_us]
      by_cases e0 : n = 0
      · rw [if_pos e0]; omega
      · rw [if_neg e0]; omega
    · rw [bs_un e, bs_un e]
      exact h.2.2.1 d (by omega)
  · show bs_sum _ (6 + p) + bs_up ln (6 + p) n (6 + p) ≤ 100
    rw [bs_sum_out (Nat.le_refl _), bs_us]
    exact hs
/-- the top string set anew: a cut, a join -/
theorem bs_ok_set {z n : Nat} (h : bs_ok (q + 1) b ln bd) (hn : n ≤ 40) (hs : bs_sum ln (6 + q) + n ≤ 100) (hz : z + n ≤ 144) (hb : 0 < n → b ≤ z) : bs_ok (q + 1) b (bs_up ln (6 + q) n) (bs_up bd (6 + q) z) := by
  refine ⟨h.1, h.2.1, fun d hd => ?_, ?_⟩
  · by_cases e : d = 6 + q
    · rw [e, bs_us, bs_us]
      exact ⟨hn, hz, hb⟩
    · rw [bs_un e, bs_un e]
      exact h.2.2.1 d (by omega)
  · show bs_sum _ (6 + q) + bs_up ln (6 + q) n (6 + q) ≤ 100
    rw [bs_sum_out (Nat.le_refl _), bs_us]
    exact hs
/-- what lies beside the room taken isn't touched -/
theorem bs_fr {z n : Nat} {s s' : Nat → Int32} (h : bs_ok p (z + n) ln bd) (hs : ∀ j, (j < z ∨ z + n ≤ j) → s' j = s j) {d : Nat} (hd : d < 6 + p) {i : Nat} (hi : i < ln d) : s' (bd d + i) = s (bd d + i) := by
  have := (h.2.2.1 d hd).2.2 (by omega)
  exact hs _ (by omega)
/-- a call that ends: its answer and state, whatever is asked of them; all variables but those in C keep their string -/
def bs_R (ln bd : Nat → Nat) (a4 : Nat → Int32) (C : Int32 → Nat → Prop) (W : (Int32 → St1 → Prop) → Prop) : Prop :=
  ∃ (r : Int32) (k' p' b' : Nat) (a1' : Nat → Int32) (ln' bd' : Nat → Nat) (a4' a5' a6' : Nat → Int32), k' ≤ 40 ∧ bs_ok p' b' ln' bd' ∧ (∀ v, v < 6 → ¬ C r v → ln' v = ln v ∧ ∀ i, i < ln v → a4' (bd' v + i) = a4 (bd v + i)) ∧
    ∀ post : Int32 → St1 → Prop, post r (bs_st k' p' b' a1' ln' bd' a4' a5' a6') → W post
/-- nothing of the strings changes -/
theorem bs_R_id {C : Int32 → Nat → Prop} {W : (Int32 → St1 → Prop) → Prop} (r : Int32) {k' p' : Nat} {a1' a5' a6' : Nat → Int32} (hk : k' ≤ 40) (h : bs_ok p' b ln bd) (hw : ∀ post : Int32 → St1 → Prop, post r (bs_st k' p' b a1' ln bd a4 a5' a6') → W post) : bs_R ln bd a4 C W :=
  ⟨r, k', p', b, a1', ln, bd, a4, a5', a6', hk, h, fun _ _ _ => ⟨rfl, fun _ _ => rfl⟩, hw⟩
theorem bs_R_t {C C' : Int32 → Nat → Prop} {W W' : (Int32 → St1 → Prop) → Prop} (h : bs_R ln bd a4 C W) (hc : ∀ r v, C r v → C' r v)
    (hw : ∀ po : Int32 → St1 → Prop, W (fun r u => match u with | (f0_keyed, f0_piled, f0_bottom, a1, a2, a3, a4, a5, a6) => po r (f0_keyed, f0_piled, f0_bottom, a1, a2, a3, a4, a5, a6)) → W' po) : bs_R ln bd a4 C' W' := by
  obtain ⟨r, k', p', b', a1', ln', bd', a4', a5', a6', h1, h2, h3, h4⟩ := h
  exact ⟨r, k', p', b', a1', ln', bd', a4', a5', a6', h1, h2, fun v hv hn => h3 v hv (fun c => hn (hc r v c)), fun po hp => hw po (h4 _ hp)⟩
end
end
section
/-! 04: the calls, first half -/
section
variable {k p b q : Nat} {a1 a4 a5 a6 : Nat → Int32} {ln bd : Nat → Nat}
theorem bs_key {C : Int32 → Nat → Prop} {c : Nat} (hk : k ≤ 40) (h : bs_ok p b ln bd) (hc : c ≤ 255) : bs_R ln bd a4 C (fun post => wpX_key post (bs_st k p b a1 ln bd a4 a5 a6) (nI c)) := by
  by_cases e : k = 40
  · exact bs_R_id (k' := k) (-5) hk h (fun post hp => by
      unfold wpX_key
      exact bs_bb hc (br_t rfl (pk_eq k 40 (fun _ => hp) (fun z => absurd e z))))
  · exact bs_R_id (k' := k + 1) (nI (k + 1)) (by omega) h (fun post hp => by
      unfold wpX_key
      exact bs_bb hc (br_t rfl (pk_eq k 40 (fun z => absurd z e) (fun _ => ⟨pk_in k 40 (by omega), nm_e (nm_r (nI_1 k) hp)⟩))))
theorem bs_newLine {C : Int32 → Nat → Prop} (h : bs_ok p b ln bd) : bs_R ln bd a4 C (fun post => wpX_newLine (fun u => match u with | (f0_keyed, f0_piled, f0_bottom, a1, a2, a3, a4, a5, a6) => post 0 (f0_keyed, f0_piled, f0_bottom, a1, a2, a3, a4, a5, a6)) (bs_st k p b a1 ln bd a4 a5 a6)) :=
  bs_R_id (k' := 0) 0 (by omega) h (fun post hp => hp)
theorem bs_drop0 {post : Int32 → St1 → Prop} (h : post (-3) (bs_st k 0 b a1 ln bd a4 a5 a6)) : wpX_drop post (bs_st k 0 b a1 ln bd a4 a5 a6) := br_t rfl h
theorem bs_dropS {post : Int32 → St1 → Prop} (hq : q ≤ 3) (h : post (nI (ln (6 + q))) (bs_st k q b a1 ln bd a4 a5 a6)) : wpX_drop post (bs_st k (q + 1) b a1 ln bd a4 a5 a6) :=
  br_f (nI_ne0 (by omega) (by omega)) (bs_top ⟨pk_in (6 + q) 10 (by omega), nm_r (bs_rd (6 + q) rfl (by omega)) (nm_r (nI_pred q) h)⟩)
theorem bs_drop {C : Int32 → Nat → Prop} (hk : k ≤ 40) (h : bs_ok p b ln bd) : bs_R ln bd a4 C (fun post => wpX_drop post (bs_st k p b a1 ln bd a4 a5 a6)) := by
  cases p with
  | zero => exact bs_R_id (k' := k) (p' := 0) (-3) hk h (fun post hp => bs_drop0 hp)
  | succ q =>
    have := h.1
    exact bs_R_id (k' := k) (p' := q) _ hk (bs_ok_dn h) (fun post hp => bs_dropS (by omega) hp)
theorem bs_lit26 {z : Nat} (hk : k ≤ 40) (hp : p < 4) (hz : z + k ≤ 144) :
    ∃ s : Nat → Int32, (∀ j, (j < z ∨ z + k ≤ j) → s j = a4 j) ∧ ∀ post : Int32 → St1 → Prop, post (nI k) (bs_st k (p + 1) z a1 (bs_up ln (6 + p) k) (bs_up bd (6 + p) (if k = 0 then 0 else z)) s a5 a6) →
      ∃ n, wX_literal_26 post (nI z) (nI k) (nI p) (nI z) n 0 a1 (fun d => nI (ln d)) (fun d => nI (bd d)) a4 a5 a6 :=
  bs_cnt (fun (post : Int32 → St1 → Prop) m i s => wX_literal_26 post (nI z) (nI k) (nI p) (nI z) m (nI i) a1 (fun d => nI (ln d)) (fun d => nI (bd d)) s a5 a6)
    (fun post s => post (nI k) (bs_st k (p + 1) z a1 (bs_up ln (6 + p) k) (bs_up bd (6 + p) (if k = 0 then 0 else z)) s a5 a6))
    (fun i s => ∀ j, (j < z ∨ z + k ≤ j) → s j = a4 j) k
    (fun s _ po m h => pk_le k k (fun _ => bs_pushBody hp (by omega) h) (fun z => absurd z (by omega)))
    (fun i s hi h => ⟨upd s (z + i) (a1 i), fun j hj => by rw [pk_un (by omega)]; exact h j hj, fun po m hw =>
      pk_le k i (fun z => absurd z (by omega)) (fun _ => ⟨pk_in i 40 (by omega), pk_in (z + i) 144 (by omega) (nI_add z i), nm_r (by rw [nI_add, nI_clamp (by omega), nI_clamp (by omega)]) (nm_r (nI_1 i) hw)⟩)⟩)
    0 a4 (by omega) (fun _ _ => rfl)
theorem bs_literal {C : Int32 → Nat → Prop} (hk : k ≤ 40) (h : bs_ok p b ln bd) : bs_R ln bd a4 C (fun post => wpX_literal post (bs_st k p b a1 ln bd a4 a5 a6)) := by
  obtain ⟨r, hr, hR⟩ := bs_refuse (k := k) (b := b) (a1 := a1) (bd := bd) (a4 := a4) (a5 := a5) (a6 := a6) (n := k) h.1 (by omega) h.2.2.2
  rcases hr with ⟨e, hp, h40, hs⟩ | hr
  · subst e
    obtain ⟨z, bd', a4', a5', a6', t1, t2, t3⟩ := bs_take (k := k) (a1 := a1) (a4 := a4) (a5 := a5) (a6 := a6) (n := k) h (by omega)
    have hz := t1.2.1
    obtain ⟨s, s1, s2⟩ := bs_lit26 (a1 := a1) (a4 := a4') (a5 := a5') (a6 := a6') (ln := ln) (bd := bd') hk hp hz
    refine ⟨_, k, p + 1, z, a1, _, _, s, a5', a6', hk, bs_ok_push (bs_ok_lo t1 (by omega)) hp h40 hs hz (fun _ => Nat.le_refl _), fun v hv _ => ?_, fun post hpost => by
      unfold wpX_literal
      exact hR _ (br_t (by decide) (t3 _ (s2 post hpost)))⟩
    rw [bs_un (by omega), bs_un (by omega)]
    exact ⟨rfl, fun i hi => by rw [bs_fr t1 s1 (by omega) hi, t2 v (by omega) i hi]⟩
  · exact bs_R_id (k' := k) r hk h (fun post hp => by
      unfold wpX_literal
      exact hR _ (br_f hr hp))
theorem bs_rep40 {z n : Nat} {c : Int32} (hn : n ≤ 40) (hp : p < 4) (hz : z + n ≤ 144) :
    ∃ s : Nat → Int32, (∀ j, (j < z ∨ z + n ≤ j) → s j = a4 j) ∧ ∀ post : Int32 → St1 → Prop, post (nI n) (bs_st k (p + 1) z a1 (bs_up ln (6 + p) n) (bs_up bd (6 + p) (if n = 0 then 0 else z)) s a5 a6) →
      ∃ m, wX_repeat_40 post (nI n) c (nI z) (nI k) (nI p) (nI z) m 0 a1 (fun d => nI (ln d)) (fun d => nI (bd d)) a4 a5 a6 :=
  bs_cnt (fun (post : Int32 → St1 → Prop) m i s => wX_repeat_40 post (nI n) c (nI z) (nI k) (nI p) (nI z) m (nI i) a1 (fun d => nI (ln d)) (fun d => nI (bd d)) s a5 a6)
    (fun post s => post (nI n) (bs_st k (p + 1) z a1 (bs_up ln (6 + p) n) (bs_up bd (6 + p) (if n = 0 then 0 else z)) s a5 a6))
    (fun i s => ∀ j, (j < z ∨ z + n ≤ j) → s j = a4 j) n
    (fun s _ po m h => pk_le n n (fun _ => bs_pushBody hp (by omega) h) (fun z => absurd z (by omega)))
    (fun i s hi h => ⟨upd s (z + i) c, fun j hj => by rw [pk_un (by omega)]; exact h j hj, fun po m hw =>
      pk_le n i (fun z => absurd z (by omega)) (fun _ => ⟨pk_in (z + i) 144 (by omega) (nI_add z i), nm_r (by rw [nI_add, nI_clamp (by omega)]) (nm_r (nI_1 i) hw)⟩)⟩)
    0 a4 (by omega) (fun _ _ => rfl)
theorem bs_repeat {C : Int32 → Nat → Prop} {n c : Nat} (hk : k ≤ 40) (h : bs_ok p b ln bd) (hn : n ≤ 255) (hc : c ≤ 255) : bs_R ln bd a4 C (fun post => wpX_repeat post (bs_st k p b a1 ln bd a4 a5 a6) (nI n) (nI c)) := by
  obtain ⟨r, hr, hR⟩ := bs_refuse (k := k) (b := b) (a1 := a1) (bd := bd) (a4 := a4) (a5 := a5) (a6 := a6) (n := n) h.1 hn h.2.2.2
  rcases hr with ⟨e, hp, h40, hs⟩ | hr
  · subst e
    obtain ⟨z, bd', a4', a5', a6', t1, t2, t3⟩ := bs_take (k := k) (a1 := a1) (a4 := a4) (a5 := a5) (a6 := a6) (n := n) h (by omega)
    have hz := t1.2.1
    obtain ⟨s, s1, s2⟩ := bs_rep40 (k := k) (a1 := a1) (a4 := a4') (a5 := a5') (a6 := a6') (ln := ln) (bd := bd') (c := nI c) h40 hp hz
    refine ⟨_, k, p + 1, z, a1, _, _, s, a5', a6', hk, bs_ok_push (bs_ok_lo t1 (by omega)) hp h40 hs hz (fun _ => Nat.le_refl _), fun v hv _ => ?_, fun post hpost => by
      unfold wpX_repeat
      exact bs_bb hn (br_t rfl (bs_bb hc (br_t rfl (hR _ (br_t (by decide) (t3 _ (s2 post hpost)))))))⟩
    rw [bs_un (by omega), bs_un (by omega)]
    exact ⟨rfl, fun i hi => by rw [bs_fr t1 s1 (by omega) hi, t2 v (by omega) i hi]⟩
  · exact bs_R_id (k' := k) r hk h (fun post hp => by
      unfold wpX_repeat
      exact bs_bb hn (br_t rfl (bs_bb hc (br_t rfl (hR _ (br_f hr hp))))))
theorem bs_push {C : Int32 → Nat → Prop} {v : Nat} (hk : k ≤ 40) (h : bs_ok p b ln bd) (hv : v < 6) : bs_R ln bd a4 C (fun post => wpX_push post (bs_st k p b a1 ln bd a4 a5 a6) (nI v)) := by
  obtain ⟨l1, l2, l3⟩ := h.2.2.1 v (by omega)
  obtain ⟨r, hr, hR⟩ := bs_refuse (k := k) (b := b) (a1 := a1) (bd := bd) (a4 := a4) (a5 := a5) (a6 := a6) (n := ln v) h.1 (by omega) h.2.2.2
  have e2 : nI (ln (nI v).toNatClampNeg) = nI (ln v) := bs_rd v rfl (by omega)
  have e3 : nI (bd (nI v).toNatClampNeg) = nI (bd v) := bs_rd v rfl (by omega)
  rcases hr with ⟨e, hp, h40, hs⟩ | hr
  · subst e
    refine ⟨nI (bs_up ln (6 + p) (ln v) v), k, p + 1, b, a1, _, _, a4, a5, a6, hk, bs_ok_push h hp h40 hs l2 l3, fun v' hv' _ => ?_, fun post hpost => ?_⟩
    · rw [bs_un (by omega), bs_un (by omega)]
      exact ⟨rfl, fun i hi => rfl⟩
    · unfold wpX_push
      refine bs_bv hv (br_t rfl ⟨pk_in v 10 (by omega), ?_⟩)
      show wpX_refuse _ _ (nI (ln (nI v).toNatClampNeg))
      rw [e2]
      refine hR _ (br_t (by decide) ⟨pk_in v 10 (by omega), pk_in v 10 (by omega), ?_⟩)
      show wpX_pushBody _ _ (nI (bd (nI v).toNatClampNeg)) (nI (ln (nI v).toNatClampNeg))
      rw [e2, e3]
      refine bs_pushBody hp (by omega) ⟨pk_in v 10 (by omega), ?_⟩
      show post (nI (bs_up ln (6 + p) (ln v) (nI v).toNatClampNeg)) _
      rw [nI_clamp (by omega)]
      exact hpost
  · refine bs_R_id (k' := k) (a1' := a1) (a5' := a5) (a6' := a6) r hk h (fun post hp => ?_)
    unfold wpX_push
    refine bs_bv hv (br_t rfl ⟨pk_in v 10 (by omega), ?_⟩)
    show wpX_refuse _ _ (nI (ln (nI v).toNatClampNeg))
    rw [e2]
    exact hR _ (br_f hr hp)
theorem bs_let {v : Nat} (hk : k ≤ 40) (h : bs_ok p b ln bd) (hv : v < 6) : bs_R ln bd a4 (fun r v' => ¬ r < 0 ∧ v' = v) (fun post => wpX_let post (bs_st k p b a1 ln bd a4 a5 a6) (nI v)) := by
  cases p with
  | zero => exact bs_R_id (k' := k) (p' := 0) (-3) hk h (fun post hp => by
      unfold wpX_let
      exact bs_bv hv (br_t rfl (br_t rfl hp)))
  | succ q =>
    have hq := h.1
    obtain ⟨l1, l2, l3⟩ := h.2.2.1 (6 + q) (by omega)
    have hs := h.2.2.2
    have hs' : bs_sum ln (6 + q) + ln (6 + q) ≤ 100 := hs
    refine ⟨nI (bs_up ln v (ln (6 + q)) v), k, q, b, a1, bs_up ln v (ln (6 + q)), bs_up bd v (bd (6 + q)), a4, a5, a6, hk, ⟨by omega, h.2.1, fun d hd => ?_, ?_⟩, fun v' hv' hn => ?_, fun post hp => ?_⟩
    · by_cases e : d = v
      · rw [e, bs_us, bs_us]
        exact ⟨l1, l2, l3⟩
      · rw [bs_un e, bs_un e]
        exact h.2.2.1 d (by omega)
    · have := bs_sum_up (f := ln) (n := 6 + q) (j := v) (v := ln (6 + q)) (by omega)
      omega
    · have e : v' ≠ v := fun e => hn ⟨nI_pos (by rw [bs_us]; omega), e⟩
      rw [bs_un e, bs_un e]
      exact ⟨rfl, fun _ _ => rfl⟩
    · unfold wpX_let
      refine bs_bv hv (br_t rfl (br_f (nI_ne0 (by omega) (by omega)) (bs_top ⟨pk_in (6 + q) 10 (by omega), pk_in v 10 (by omega), nm_r (bs_upC v (bd (6 + q)) rfl (bs_rd (6 + q) rfl (by omega)) (by omega)) ⟨pk_in (6 + q) 10 (by omega), pk_in v 10 (by omega), nm_r (bs_upC v (ln (6 + q)) rfl (bs_rd (6 + q) rfl (by omega)) (by omega)) (nm_r (nI_pred q) ⟨pk_in v 10 (by omega), ?_⟩)⟩⟩)))
      show post (nI (bs_up ln v (ln (6 + q)) (nI v).toNatClampNeg)) _
      rw [nI_clamp (by omega)]
      exact hp
theorem bs_swap {u v : Nat} (hk : k ≤ 40) (h : bs_ok p b ln bd) (hu : u < 6) (hv : v < 6) : bs_R ln bd a4 (fun r v' => ¬ r < 0 ∧ (v' = v ∨ v' = u)) (fun post => wpX_swap post (bs_st k p b a1 ln bd a4 a5 a6) (nI u) (nI v)) := by
  refine ⟨0, k, p, b, a1, bs_up (bs_up ln u (ln v)) v (ln u), bs_up (bs_up bd u (bd v)) v (bd u), a4, a5, a6, hk, ⟨h.1, h.2.1, fun d hd => ?_, ?_⟩, fun v' hv' hn => ?_, fun post hp => by
    unfold wpX_swap
    exact bs_bv hu (br_t rfl (bs_bv hv (br_t rfl ⟨pk_in u 10 (by omega), nm_r (bs_rd u rfl (by omega)) ⟨pk_in u 10 (by omega), nm_r (bs_rd u rfl (by omega)) ⟨pk_in v 10 (by omega), pk_in u 10 (by omega), nm_r (bs_upC u (bd v) rfl (bs_rd v rfl (by omega)) (by omega)) ⟨pk_in v 10 (by omega), pk_in u 10 (by omega), nm_r (bs_upC u (ln v) rfl (bs_rd v rfl (by omega)) (by omega)) ⟨pk_in v 10 (by omega), nm_r (bs_upC v (bd u) rfl rfl (by omega)) ⟨pk_in v 10 (by omega), nm_r (bs_upC v (ln u) rfl rfl (by omega)) hp⟩⟩⟩⟩⟩⟩)))⟩
  · by_cases e : d = v
    · rw [e, bs_us, bs_us]
      exact h.2.2.1 u (by omega)
    · rw [bs_un e, bs_un e]
      by_cases e' : d = u
      · rw [e', bs_us, bs_us]
        exact h.2.2.1 v (by omega)
      · rw [bs_un e', bs_un e']
        exact h.2.2.1 d hd
  · have hs := h.2.2.2
    have s1 := bs_sum_up (f := ln) (n := 6 + p) (j := u) (v := ln v) (by omega)
    have s2 := bs_sum_up (f := bs_up ln u (ln v)) (n := 6 + p) (j := v) (v := ln u) (by omega)
    by_cases e : v = u
    · subst e
      rw [bs_us] at s2
      omega
    · rw [bs_un e] at s2
      omega
  · have e : v' ≠ v := fun e => hn ⟨by decide, Or.inl e⟩
    have e' : v' ≠ u := fun e => hn ⟨by decide, Or.inr e⟩
    rw [bs_un e, bs_un e, bs_un e', bs_un e']
    exact ⟨rfl, fun _ _ => rfl⟩
end
end
section
/-! 05: the calls, second half: join, cut, compare -/
section
variable {k p b q : Nat} {a1 a4 a5 a6 : Nat → Int32} {ln bd : Nat → Nat}
theorem bs_top2 {post : Int32 → Prop} {c1 c3 : Int32} {b1 b2 b3 b4 b5 b6 : Nat → Int32} (h : post (nI (7 + q))) : wpX_top post (c1, nI (q + 2), c3, b1, b2, b3, b4, b5, b6) := by
  show post ((6 + nI (q + 1 + 1)) - 1)
  rw [bs_tp, show 6 + (q + 1) = 7 + q by omega]
  exact h
theorem bs_x7 (q : Nat) : nI (7 + q) - 1 = nI (6 + q) := by
  rw [show 7 + q = 6 + q + 1 by omega]
  exact nI_pred (6 + q)
theorem bs_s7 (h : bs_ok (q + 2) b ln bd) : bs_sum ln (6 + q) + ln (6 + q) + ln (7 + q) ≤ 100 := by
  have hs : bs_sum ln (6 + q) + ln (6 + q) + ln (6 + (q + 1)) ≤ 100 := h.2.2.2
  rw [show 6 + (q + 1) = 7 + q by omega] at hs
  exact hs
theorem bs_165 {post : Int32 → St1 → Prop} {n : Nat} (hq : q ≤ 2) (h : post (nI n) (bs_st k (q + 1) b a1 (bs_up ln (6 + q) n) bd a4 a5 a6)) : wX_join_165 post (nI (6 + q)) (nI n) (nI k) (nI (q + 2)) (nI b) a1 (fun d => nI (ln d)) (fun d => nI (bd d)) a4 a5 a6 :=
  ⟨pk_in (6 + q) 10 (by omega), nm_r (bs_upC (6 + q) n rfl rfl (by omega)) (nm_r (nI_pred (q + 1)) h)⟩
/-- no room is taken: one of the two is empty, or they lie one behind the other -/
theorem bs_144 {C : Int32 → Nat → Prop} {W : (Int32 → St1 → Prop) → Prop} (hk : k ≤ 40) (h : bs_ok (q + 2) b ln bd) (hn : ln (6 + q) + ln (7 + q) ≤ 40)
    (hc : ln (6 + q) = 0 ∨ ln (7 + q) = 0 ∨ bd (6 + q) + ln (6 + q) = bd (7 + q))
    (hw : ∀ post : Int32 → St1 → Prop, wX_join_144 post (nI (7 + q)) (nI (6 + q)) (nI (ln (6 + q) + ln (7 + q))) (nI k) (nI (q + 2)) (nI b) a1 (fun d => nI (ln d)) (fun d => nI (bd d)) a4 a5 a6 → W post) : bs_R ln bd a4 C W := by
  have hq := h.1
  obtain ⟨x1, x2, x3⟩ := h.2.2.1 (6 + q) (by omega)
  obtain ⟨y1, y2, y3⟩ := h.2.2.1 (7 + q) (by omega)
  have hs := bs_s7 h
  by_cases e : ln (6 + q) = 0
  · refine ⟨nI (ln (6 + q) + ln (7 + q)), k, q + 1, b, a1, bs_up ln (6 + q) (ln (6 + q) + ln (7 + q)), bs_up bd (6 + q) (bd (7 + q)), a4, a5, a6, hk, bs_ok_set (bs_ok_dn h) hn (by omega) (by omega) (fun h0 => y3 (by omega)), fun v hv _ => ?_, fun post hp => hw post ⟨pk_in (6 + q) 10 (by omega), br_t ?_ ⟨pk_in (7 + q) 10 (by omega), pk_in (6 + q) 10 (by omega), nm_r (bs_upC (6 + q) (bd (7 + q)) rfl (bs_rd (7 + q) rfl (by omega)) (by omega)) (bs_165 (by omega) hp)⟩⟩⟩
    · rw [bs_un (by omega), bs_un (by omega)]
      exact ⟨rfl, fun _ _ => rfl⟩
    · show nI (ln (nI (6 + q)).toNatClampNeg) = 0
      rw [nI_clamp (by omega), e]
      rfl
  · refine ⟨nI (ln (6 + q) + ln (7 + q)), k, q + 1, b, a1, bs_up ln (6 + q) (ln (6 + q) + ln (7 + q)), bd, a4, a5, a6, hk, ?_, fun v hv _ => ?_, fun post hp => hw post ⟨pk_in (6 + q) 10 (by omega), br_f ?_ (bs_165 (by omega) hp)⟩⟩
    · have := bs_ok_set (z := bd (6 + q)) (bs_ok_dn h) hn (by omega) (by omega) (fun h0 => x3 (by omega))
      have eb : bs_up bd (6 + q) (bd (6 + q)) = bd := by
        funext d
        by_cases ed : d = 6 + q
        · rw [ed, bs_us]
        · rw [bs_un ed]
      rw [eb] at this
      exact this
    · rw [bs_un (by omega)]
      exact ⟨rfl, fun _ _ => rfl⟩
    · show ¬ nI (ln (nI (6 + q)).toNatClampNeg) = 0
      rw [nI_clamp (by omega)]
      exact nI_ne0 (by omega) (by omega)
theorem bs_join {C : Int32 → Nat → Prop} (hk : k ≤ 40) (h : bs_ok p b ln bd) : bs_R ln bd a4 C (fun post => wpX_join post (bs_st k p b a1 ln bd a4 a5 a6)) := by
  have hp4 := h.1
  by_cases h2 : p < 2
  · exact bs_R_id (k' := k) (p' := p) (-3) hk h (fun post hp => br_f (nI_ge (b := 2) h2 (by decide)) hp)
  · obtain ⟨q, rfl⟩ : ∃ q, p = q + 2 := ⟨p - 2, by omega⟩
    obtain ⟨x1, x2, x3⟩ := h.2.2.1 (6 + q) (by omega)
    obtain ⟨y1, y2, y3⟩ := h.2.2.1 (7 + q) (by omega)
    have hs := bs_s7 h
    have cx : (nI (6 + q)).toNatClampNeg = 6 + q := nI_clamp (by omega)
    have cy : (nI (7 + q)).toNatClampNeg = 7 + q := nI_clamp (by omega)
    by_cases hn : ln (6 + q) + ln (7 + q) ≤ 40
    · by_cases hc : ln (6 + q) = 0 ∨ ln (7 + q) = 0 ∨ bd (6 + q) + ln (6 + q) = bd (7 + q)
      · refine bs_144 (a1 := a1) (a5 := a5) (a6 := a6) hk h hn hc (fun post hw => ?_)
        refine br_t (nI_le (a := 2) (by omega) (by omega)) (bs_top2 (nm_r (bs_x7 q) ?_))
        rw [cx, cy]
        refine ⟨pk_in (6 + q) 10 (by omega), pk_in (7 + q) 10 (by omega), nm_r (nI_add _ _) ?_⟩
        exact pk_le (ln (6 + q) + ln (7 + q)) 40 (fun _ => ⟨pk_in (6 + q) 10 (by omega), pk_le (ln (6 + q)) 0 (fun _ => hw) (fun z => ⟨pk_in (7 + q) 10 (by omega), pk_le (ln (7 + q)) 0 (fun _ => hw) (fun z' => ⟨pk_in (6 + q) 10 (by omega), pk_in (6 + q) 10 (by omega), pk_in (7 + q) 10 (by omega), pk_eq (bd (6 + q) + ln (6 + q)) (bd (7 + q)) (fun _ => hw) (fun z2 => absurd hc (by omega)) (nI_add _ _)⟩)⟩)⟩) (fun z => absurd hn (by omega))
      · obtain ⟨z, bd', a4', a5', a6', t1, t2, t3⟩ := bs_take (k := k) (a1 := a1) (a4 := a4) (a5 := a5) (a6 := a6) (n := ln (6 + q) + ln (7 + q)) h (by omega)
        obtain ⟨u1, u2, u3⟩ := t1.2.2.1 (6 + q) (by omega)
        obtain ⟨w1, w2, w3⟩ := t1.2.2.1 (7 + q) (by omega)
        have hz := t1.2.1
        obtain ⟨s, s1, s2⟩ := bs_copy (c1 := nI k) (c2 := nI (q + 2)) (c3 := nI z) (a1 := a1) (a2 := fun d => nI (ln d)) (a3 := fun d => nI (bd' d)) (a4 := a4') (a5 := a5') (a6 := a6') (f := bd' (6 + q)) (t := z) (n := ln (6 + q)) u2 (by omega)
        obtain ⟨s', s1', s2'⟩ := bs_copy (c1 := nI k) (c2 := nI (q + 2)) (c3 := nI z) (a1 := a1) (a2 := fun d => nI (ln d)) (a3 := fun d => nI (bd' d)) (a4 := s) (a5 := a5') (a6 := a6') (f := bd' (7 + q)) (t := z + ln (6 + q)) (n := ln (7 + q)) w2 (by omega)
        have fr : ∀ j, (j < z ∨ z + (ln (6 + q) + ln (7 + q)) ≤ j) → s' j = a4' j := fun j hj => by rw [s1' j (by omega), s1 j (by omega)]
        refine ⟨nI (ln (6 + q) + ln (7 + q)), k, q + 1, z, a1, bs_up ln (6 + q) (ln (6 + q) + ln (7 + q)), bs_up bd' (6 + q) z, s', a5', a6', hk, bs_ok_set (bs_ok_dn (bs_ok_lo t1 (by omega))) hn (by omega) hz (fun _ => Nat.le_refl _), fun v hv _ => ?_, fun post hp => ?_⟩
        · rw [bs_un (by omega), bs_un (by omega)]
          exact ⟨rfl, fun i hi => by rw [bs_fr t1 fr (by omega) hi, t2 v (by omega) i hi]⟩
        · refine br_t (nI_le (a := 2) (by omega) (by omega)) (bs_top2 (nm_r (bs_x7 q) ?_))
          rw [cx, cy]
          refine ⟨pk_in (6 + q) 10 (by omega), pk_in (7 + q) 10 (by omega), nm_r (nI_add _ _) ?_⟩
          refine pk_le (ln (6 + q) + ln (7 + q)) 40 (fun _ => ⟨pk_in (6 + q) 10 (by omega), pk_le (ln (6 + q)) 0 (fun z => absurd hc (by omega)) (fun _ => ⟨pk_in (7 + q) 10 (by omega), pk_le (ln (7 + q)) 0 (fun z => absurd hc (by omega)) (fun _ => ⟨pk_in (6 + q) 10 (by omega), pk_in (6 + q) 10 (by omega), pk_in (7 + q) 10 (by omega), pk_eq (bd (6 + q) + ln (6 + q)) (bd (7 + q)) (fun z => absurd hc (by omega)) (fun _ => t3 _ ⟨pk_in (6 + q) 10 (by omega), pk_in (6 + q) 10 (by omega), s2 _ ⟨pk_in (7 + q) 10 (by omega), pk_in (6 + q) 10 (by omega), pk_in (7 + q) 10 (by omega), ?_⟩⟩) (nI_add _ _)⟩)⟩)⟩) (fun z => absurd hn (by omega))
          show wpX_copy _ _ _ (nI z + nI (ln (6 + q))) _
          rw [nI_add z (ln (6 + q))]
          exact s2' _ ⟨pk_in (6 + q) 10 (by omega), nm_r (bs_upE bd' (6 + q) z) (bs_165 (by omega) hp)⟩
    · refine bs_R_id (k' := k) (p' := q + 2) (a1' := a1) (a5' := a5) (a6' := a6) (-5) hk h (fun post hp => ?_)
      refine br_t (nI_le (a := 2) (by omega) (by omega)) (bs_top2 (nm_r (bs_x7 q) ?_))
      rw [cx, cy]
      refine ⟨pk_in (6 + q) 10 (by omega), pk_in (7 + q) 10 (by omega), nm_r (nI_add _ _) ?_⟩
      exact pk_le (ln (6 + q) + ln (7 + q)) 40 (fun z => absurd z hn) (fun _ => hp)
/-! cut -/
theorem bs_c75 {post : Int32 → St1 → Prop} {m z : Nat} {x : Int32} (hx : x = nI z) (hq : q ≤ 3) (h : post (nI m) (bs_st k (q + 1) b a1 (bs_up ln (6 + q) m) (bs_up bd (6 + q) z) a4 a5 a6)) : wX_cut_75 post (nI (6 + q)) (nI m) x (nI (6 + q)) (nI k) (nI (q + 1)) (nI b) a1 (fun d => nI (ln d)) (fun d => nI (bd d)) a4 a5 a6 :=
  ⟨pk_in (6 + q) 10 (by omega), nm_r (bs_upC (6 + q) z rfl hx (by omega)) ⟨pk_in (6 + q) 10 (by omega), nm_r (bs_upC (6 + q) m rfl rfl (by omega)) h⟩⟩
theorem bs_c50 {post : Int32 → St1 → Prop} {m f : Nat} (hm : m ≤ 255) (hq : q ≤ 3) (h : post (nI m) (bs_st k (q + 1) b a1 (bs_up ln (6 + q) m) (bs_up bd (6 + q) (if m = 0 then 0 else bd (6 + q) + f)) a4 a5 a6)) : wX_cut_50 post (nI (6 + q)) (nI f) (nI m) (nI k) (nI (q + 1)) (nI b) a1 (fun d => nI (ln d)) (fun d => nI (bd d)) a4 a5 a6 :=
  pk_eq m 0 (fun e => bs_c75 (z := 0) rfl hq (by rw [if_pos e] at h; exact h)) (fun e => ⟨pk_in (6 + q) 10 (by omega), bs_c75 (z := bd (6 + q) + f) (by
    show nI (bd (nI (6 + q)).toNatClampNeg) + nI f = _
    rw [nI_clamp (by omega)]
    exact nI_add _ _) hq (by rw [if_neg e] at h; exact h)⟩)
theorem bs_c25 {f n : Nat} (hf : f ≤ ln (6 + q)) (hl : ln (6 + q) ≤ 40) (hn : n ≤ 255) (hq : q ≤ 3) :
    ∃ m, f + m ≤ ln (6 + q) ∧ ∀ post : Int32 → St1 → Prop, post (nI m) (bs_st k (q + 1) b a1 (bs_up ln (6 + q) m) (bs_up bd (6 + q) (if m = 0 then 0 else bd (6 + q) + f)) a4 a5 a6) → wX_cut_25 post (nI n) (nI (6 + q)) (nI f) (nI k) (nI (q + 1)) (nI b) a1 (fun d => nI (ln d)) (fun d => nI (bd d)) a4 a5 a6 := by
  have e : nI (ln (nI (6 + q)).toNatClampNeg) - nI f = nI (ln (6 + q) - f) := by
    rw [nI_clamp (by omega)]
    exact pk_sub hf
  by_cases c : ln (6 + q) - f ≤ n
  · exact ⟨ln (6 + q) - f, by omega, fun post h => ⟨pk_in (6 + q) 10 (by omega), nm_r e (pk_le (ln (6 + q) - f) n (fun _ => bs_c50 (by omega) hq h) (fun z => absurd z (by omega)))⟩⟩
  · exact ⟨n, by omega, fun post h => ⟨pk_in (6 + q) 10 (by omega), nm_r e (pk_le (ln (6 + q) - f) n (fun z => absurd z (by omega)) (fun _ => bs_c50 (by omega) hq h))⟩⟩
theorem bs_cut {i n : Nat} (hi : i ≤ 255) (hl : ln (6 + q) ≤ 40) (hn : n ≤ 255) (hq : q ≤ 3) :
    ∃ f m, f + m ≤ ln (6 + q) ∧ ∀ post : Int32 → St1 → Prop, post (nI m) (bs_st k (q + 1) b a1 (bs_up ln (6 + q) m) (bs_up bd (6 + q) (if m = 0 then 0 else bd (6 + q) + f)) a4 a5 a6) → wpX_cut post (bs_st k (q + 1) b a1 ln bd a4 a5 a6) (nI i) (nI n) := by
  have e : nI (ln (nI (6 + q)).toNatClampNeg) = nI (ln (6 + q)) := bs_rd (6 + q) rfl (by omega)
  by_cases c : i ≤ ln (6 + q)
  · obtain ⟨m, h1, h2⟩ := bs_c25 (k := k) (b := b) (a1 := a1) (bd := bd) (a4 := a4) (a5 := a5) (a6 := a6) c hl hn hq
    refine ⟨i, m, h1, fun post h => ?_⟩
    unfold wpX_cut
    exact bs_top ⟨pk_in (6 + q) 10 (by omega), pk_le i (ln (6 + q)) (fun _ => h2 post h) (fun z => absurd z (by omega)) rfl e⟩
  · obtain ⟨m, h1, h2⟩ := bs_c25 (k := k) (b := b) (a1 := a1) (bd := bd) (a4 := a4) (a5 := a5) (a6 := a6) (f := ln (6 + q)) (Nat.le_refl _) hl hn hq
    refine ⟨ln (6 + q), m, h1, fun post h => ?_⟩
    unfold wpX_cut
    refine bs_top ⟨pk_in (6 + q) 10 (by omega), pk_le i (ln (6 + q)) (fun z => absurd z c) (fun _ => ⟨pk_in (6 + q) 10 (by omega), ?_⟩) rfl e⟩
    show wX_cut_25 post (nI n) (nI (6 + q)) (nI (ln (nI (6 + q)).toNatClampNeg)) _ _ _ _ _ _ _ _ _
    rw [e]
    exact h2 post h
theorem bs_cutR {C : Int32 → Nat → Prop} {i n : Nat} (hk : k ≤ 40) (h : bs_ok (q + 1) b ln bd) (hi : i ≤ 255) (hn : n ≤ 255) : bs_R ln bd a4 C (fun post => wpX_cut post (bs_st k (q + 1) b a1 ln bd a4 a5 a6) (nI i) (nI n)) := by
  have hq := h.1
  obtain ⟨l1, l2, l3⟩ := h.2.2.1 (6 + q) (by omega)
  have hs : bs_sum ln (6 + q) + ln (6 + q) ≤ 100 := h.2.2.2
  obtain ⟨f, m, h1, h2⟩ := bs_cut (k := k) (b := b) (a1 := a1) (bd := bd) (a4 := a4) (a5 := a5) (a6 := a6) hi l1 hn (by omega)
  refine ⟨_, k, q + 1, b, a1, _, _, a4, a5, a6, hk, bs_ok_set h (by omega) (by omega) ?_ ?_, fun v hv _ => ?_, h2⟩
  · by_cases e : m = 0
    · rw [if_pos e]; omega
    · rw [if_neg e]; omega
  · intro h0
    rw [if_neg (by omega)]
    have := l3 (by omega)
    omega
  · rw [bs_un (by omega), bs_un (by omega)]
    exact ⟨rfl, fun _ _ => rfl⟩
theorem bs_left {C : Int32 → Nat → Prop} {n : Nat} (hk : k ≤ 40) (h : bs_ok p b ln bd) (hn : n ≤ 255) : bs_R ln bd a4 C (fun post => wpX_left post (bs_st k p b a1 ln bd a4 a5 a6) (nI n)) := by
  cases p with
  | zero => exact bs_R_id (k' := k) (p' := 0) (-3) hk h (fun post hp => by
      unfold wpX_left
      exact bs_bb hn (br_t rfl (br_t rfl hp)))
  | succ q =>
    have hq := h.1
    exact bs_R_t (bs_cutR (i := 0) (n := n) (a1 := a1) (a5 := a5) (a6 := a6) hk h (by omega) hn) (fun _ _ c => c) (fun po hw => by
      unfold wpX_left
      exact bs_bb hn (br_t rfl (br_f (nI_ne0 (by omega) (by omega)) hw)))
theorem bs_mid {C : Int32 → Nat → Prop} {i n : Nat} (hk : k ≤ 40) (h : bs_ok p b ln bd) (hi : i + 1 ≤ 255) (hn : n ≤ 255) : bs_R ln bd a4 C (fun post => wpX_mid post (bs_st k p b a1 ln bd a4 a5 a6) (nI (i + 1)) (nI n)) := by
  have w : ∀ {A B D : Prop}, D → (nI (i + 1) < 1 → A) ∧ (¬ nI (i + 1) < 1 → ((255 < nI (i + 1) → B) ∧ (¬ 255 < nI (i + 1) → D))) := fun d =>
    br_f (nI_nlt (b := 1) (by omega) (by omega)) (br_f (nI_nlt (a := 255) (by omega) (by omega)) d)
  cases p with
  | zero => exact bs_R_id (k' := k) (p' := 0) (-3) hk h (fun post hp => w (bs_bb hn (br_t rfl (br_t rfl hp))))
  | succ q =>
    have hq := h.1
    refine bs_R_t (bs_cutR (i := i) (n := n) (a1 := a1) (a5 := a5) (a6 := a6) hk h (by omega) hn) (fun _ _ c => c) (fun po hw => w (bs_bb hn (br_t rfl (br_f (nI_ne0 (by omega) (by omega)) ?_))))
    show wpX_cut _ _ (nI (i + 1) - 1) _
    rw [nI_pred]
    exact hw
theorem bs_right {C : Int32 → Nat → Prop} {n : Nat} (hk : k ≤ 40) (h : bs_ok p b ln bd) (hn : n ≤ 255) : bs_R ln bd a4 C (fun post => wpX_right post (bs_st k p b a1 ln bd a4 a5 a6) (nI n)) := by
  cases p with
  | zero => exact bs_R_id (k' := k) (p' := 0) (-3) hk h (fun post hp => by
      unfold wpX_right
      exact bs_bb hn (br_t rfl (br_t rfl hp)))
  | succ q =>
    have hq := h.1
    obtain ⟨l1, l2, l3⟩ := h.2.2.1 (6 + q) (by omega)
    by_cases c : ln (6 + q) ≤ n
    · exact bs_R_t (bs_cutR (i := 0) (n := ln (6 + q)) (a1 := a1) (a5 := a5) (a6 := a6) hk h (by omega) (by omega)) (fun _ _ c => c) (fun po hw => by
        unfold wpX_right
        exact bs_bb hn (br_t rfl (br_f (nI_ne0 (by omega) (by omega)) (bs_top ⟨pk_in (6 + q) 10 (by omega), nm_r (bs_rd (6 + q) rfl (by omega)) (pk_le (ln (6 + q)) n (fun _ => hw) (fun z => absurd z (by omega)))⟩))))
    · refine bs_R_t (bs_cutR (i := ln (6 + q) - n) (n := n) (a1 := a1) (a5 := a5) (a6 := a6) hk h (by omega) (by omega)) (fun _ _ c => c) (fun po hw => ?_)
      unfold wpX_right
      refine bs_bb hn (br_t rfl (br_f (nI_ne0 (by omega) (by omega)) (bs_top ⟨pk_in (6 + q) 10 (by omega), nm_r (bs_rd (6 + q) rfl (by omega)) (pk_le (ln (6 + q)) n (fun z => absurd z c) (fun _ => ?_))⟩)))
      show wpX_cut _ _ (nI (ln (6 + q)) - nI n) _
      rw [pk_sub (show n ≤ ln (6 + q) by omega)]
      exact hw
end
end
section
/-! 06: compare, shared, setMid -/
section
variable {k p b q : Nat} {a1 a4 a5 a6 : Nat → Int32} {ln bd : Nat → Nat}
theorem bs_143 (hq : q ≤ 2) : ∃ r : Int32, ∀ post : Int32 → St1 → Prop, post r (bs_st k q b a1 ln bd a4 a5 a6) → wX_compare_143 post (nI (7 + q)) (nI (6 + q)) (nI k) (nI q) (nI b) a1 (fun d => nI (ln d)) (fun d => nI (bd d)) a4 a5 a6 := by
  by_cases c1 : nI (ln (nI (6 + q)).toNatClampNeg) = nI (ln (nI (7 + q)).toNatClampNeg)
  · exact ⟨0, fun post h => ⟨pk_in (6 + q) 10 (by omega), pk_in (7 + q) 10 (by omega), br_t c1 h⟩⟩
  · by_cases c2 : nI (ln (nI (7 + q)).toNatClampNeg) ≤ nI (ln (nI (6 + q)).toNatClampNeg)
    · exact ⟨2, fun post h => ⟨pk_in (6 + q) 10 (by omega), pk_in (7 + q) 10 (by omega), br_f c1 ⟨pk_in (6 + q) 10 (by omega), pk_in (7 + q) 10 (by omega), br_t c2 h⟩⟩⟩
    · exact ⟨1, fun post h => ⟨pk_in (6 + q) 10 (by omega), pk_in (7 + q) 10 (by omega), br_f c1 ⟨pk_in (6 + q) 10 (by omega), pk_in (7 + q) 10 (by omega), br_f c2 h⟩⟩⟩
theorem bs_79 {m : Nat} (hq : q ≤ 2) (hx : bd (6 + q) + m ≤ 144) (hy : bd (7 + q) + m ≤ 144) : ∃ r : Int32, True ∧ ∀ post : Int32 → St1 → Prop, post r (bs_st k q b a1 ln bd a4 a5 a6) → ∃ n, wX_compare_79 post (nI (7 + q)) (nI (6 + q)) (nI m) (nI k) (nI q) (nI b) a1 (fun d => nI (ln d)) (fun d => nI (bd d)) a4 a5 a6 n 0 := by
  have cx : (nI (6 + q)).toNatClampNeg = 6 + q := nI_clamp (by omega)
  have cy : (nI (7 + q)).toNatClampNeg = 7 + q := nI_clamp (by omega)
  refine bs_loop (fun (post : Int32 → St1 → Prop) n (i : Nat) => wX_compare_79 post (nI (7 + q)) (nI (6 + q)) (nI m) (nI k) (nI q) (nI b) a1 (fun d => nI (ln d)) (fun d => nI (bd d)) a4 a5 a6 n (nI i)) (fun post (r : Int32) => post r (bs_st k q b a1 ln bd a4 a5 a6)) (fun i => i ≤ m) (fun _ => True) (fun i => m - i) (fun i hi => ?_) 0 (Nat.zero_le _)
  by_cases c : m ≤ i
  · obtain ⟨r, hr⟩ := bs_143 (k := k) (b := b) (a1 := a1) (a4 := a4) (a5 := a5) (a6 := a6) (ln := ln) (bd := bd) hq
    exact Or.inl ⟨r, trivial, fun po n h => pk_le m i (fun _ => hr po h) (fun z => absurd z (by omega))⟩
  · have ex : nI (bd (nI (6 + q)).toNatClampNeg) + nI i = nI (bd (6 + q) + i) := by rw [cx, nI_add]
    have ey : nI (bd (nI (7 + q)).toNatClampNeg) + nI i = nI (bd (7 + q) + i) := by rw [cy, nI_add]
    have fx : a4 (nI (bd (nI (6 + q)).toNatClampNeg) + nI i).toNatClampNeg = a4 (bd (6 + q) + i) := by rw [ex, nI_clamp (by omega)]
    have fy : a4 (nI (bd (nI (7 + q)).toNatClampNeg) + nI i).toNatClampNeg = a4 (bd (7 + q) + i) := by rw [ey, nI_clamp (by omega)]
    by_cases e : a4 (bd (6 + q) + i) = a4 (bd (7 + q) + i)
    · exact Or.inr ⟨i + 1, by omega, by omega, fun po n hw => pk_le m i (fun z => absurd z c) (fun _ => ⟨pk_in (6 + q) 10 (by omega), pk_in (bd (6 + q) + i) 144 (by omega) ex, nm_r fx ⟨pk_in (7 + q) 10 (by omega), pk_in (bd (7 + q) + i) 144 (by omega) ey, nm_r fy (br_t e (nm_r (nI_1 i) hw))⟩⟩)⟩
    · by_cases e2 : a4 (bd (7 + q) + i) ≤ a4 (bd (6 + q) + i)
      · exact Or.inl ⟨2, trivial, fun po n h => pk_le m i (fun z => absurd z c) (fun _ => ⟨pk_in (6 + q) 10 (by omega), pk_in (bd (6 + q) + i) 144 (by omega) ex, nm_r fx ⟨pk_in (7 + q) 10 (by omega), pk_in (bd (7 + q) + i) 144 (by omega) ey, nm_r fy (br_f e (br_t e2 h))⟩⟩)⟩
      · exact Or.inl ⟨1, trivial, fun po n h => pk_le m i (fun z => absurd z c) (fun _ => ⟨pk_in (6 + q) 10 (by omega), pk_in (bd (6 + q) + i) 144 (by omega) ex, nm_r fx ⟨pk_in (7 + q) 10 (by omega), pk_in (bd (7 + q) + i) 144 (by omega) ey, nm_r fy (br_f e (br_f e2 h))⟩⟩)⟩
theorem bs_c50m {m : Nat} (hq : q ≤ 2) (hx : bd (6 + q) + m ≤ 144) (hy : bd (7 + q) + m ≤ 144) : ∃ r : Int32, ∀ post : Int32 → St1 → Prop, post r (bs_st k q b a1 ln bd a4 a5 a6) → wX_compare_50 post (nI (7 + q)) (nI (6 + q)) (nI m) (nI k) (nI (q + 2)) (nI b) a1 (fun d => nI (ln d)) (fun d => nI (bd d)) a4 a5 a6 := by
  have e : nI (q + 2) - 2 = nI q := pk_sub (a := q + 2) (b := 2) (by omega)
  by_cases c : nI (bd (nI (6 + q)).toNatClampNeg) = nI (bd (nI (7 + q)).toNatClampNeg)
  · obtain ⟨r, hr⟩ := bs_143 (k := k) (b := b) (a1 := a1) (a4 := a4) (a5 := a5) (a6 := a6) (ln := ln) (bd := bd) hq
    exact ⟨r, fun post h => nm_r e ⟨pk_in (6 + q) 10 (by omega), pk_in (7 + q) 10 (by omega), br_t c (hr post h)⟩⟩
  · obtain ⟨r, _, hr⟩ := bs_79 (k := k) (b := b) (a1 := a1) (a4 := a4) (a5 := a5) (a6 := a6) (ln := ln) (bd := bd) hq hx hy
    exact ⟨r, fun post h => nm_r e ⟨pk_in (6 + q) 10 (by omega), pk_in (7 + q) 10 (by omega), br_f c (hr post h)⟩⟩
theorem bs_compare {C : Int32 → Nat → Prop} (hk : k ≤ 40) (h : bs_ok p b ln bd) : bs_R ln bd a4 C (fun post => wpX_compare post (bs_st k p b a1 ln bd a4 a5 a6)) := by
  have hp4 := h.1
  by_cases h2 : p < 2
  · exact bs_R_id (k' := k) (p' := p) (-3) hk h (fun post hp => br_f (nI_ge (b := 2) h2 (by decide)) hp)
  · obtain ⟨q, rfl⟩ : ∃ q, p = q + 2 := ⟨p - 2, by omega⟩
    obtain ⟨x1, x2, x3⟩ := h.2.2.1 (6 + q) (by omega)
    obtain ⟨y1, y2, y3⟩ := h.2.2.1 (7 + q) (by omega)
    have cx : (nI (6 + q)).toNatClampNeg = 6 + q := nI_clamp (by omega)
    have cy : (nI (7 + q)).toNatClampNeg = 7 + q := nI_clamp (by omega)
    by_cases c : ln (7 + q) ≤ ln (6 + q)
    · obtain ⟨r, hr⟩ := bs_c50m (k := k) (b := b) (a1 := a1) (a4 := a4) (a5 := a5) (a6 := a6) (ln := ln) (bd := bd) (q := q) (m := ln (7 + q)) (by omega) (by omega) (by omega)
      refine bs_R_id (k' := k) (p' := q) (a1' := a1) (a5' := a5) (a6' := a6) r hk (bs_ok_dn (bs_ok_dn h)) (fun post hp => ?_)
      refine br_t (nI_le (a := 2) (by omega) (by omega)) (bs_top2 (nm_r (bs_x7 q) ?_))
      rw [cx, cy]
      exact ⟨pk_in (6 + q) 10 (by omega), pk_in (7 + q) 10 (by omega), pk_le (ln (7 + q)) (ln (6 + q)) (fun _ => ⟨pk_in (7 + q) 10 (by omega), hr post hp⟩) (fun z => absurd z (by omega))⟩
    · obtain ⟨r, hr⟩ := bs_c50m (k := k) (b := b) (a1 := a1) (a4 := a4) (a5 := a5) (a6 := a6) (ln := ln) (bd := bd) (q := q) (m := ln (6 + q)) (by omega) (by omega) (by omega)
      refine bs_R_id (k' := k) (p' := q) (a1' := a1) (a5' := a5) (a6' := a6) r hk (bs_ok_dn (bs_ok_dn h)) (fun post hp => ?_)
      refine br_t (nI_le (a := 2) (by omega) (by omega)) (bs_top2 (nm_r (bs_x7 q) ?_))
      rw [cx, cy]
      exact ⟨pk_in (6 + q) 10 (by omega), pk_in (7 + q) 10 (by omega), pk_le (ln (7 + q)) (ln (6 + q)) (fun z => absurd z c) (fun _ => ⟨pk_in (6 + q) 10 (by omega), hr post hp⟩)⟩
/-! shared -/
theorem bs_shared {v : Nat} (hp : p ≤ 4) (hv : v < 6) (hb : ∀ d, d < 6 + p → bd d + ln d ≤ 144) :
    ∃ r : Int32, (r = 1 ∨ (r = 0 ∧ ∀ d, d < 10 → d ≠ v → d < 6 + p → 0 < ln d → bd v + ln v ≤ bd d ∨ bd d + ln d ≤ bd v)) ∧ ∀ post : Int32 → Prop, post r → wpX_shared post (bs_st k p b a1 ln bd a4 a5 a6) (nI v) := by
  refine Exists.elim (bs_cnt (fun (post : Int32 → Prop) m d (s : Int32) => wX_shared_4 post (nI v) (nI k) (nI p) (nI b) a1 (fun d => nI (ln d)) (fun d => nI (bd d)) a4 a5 a6 m s (nI d)) (fun post s => post s)
    (fun d s => s = 1 ∨ (s = 0 ∧ ∀ d', d' < d → d' ≠ v → d' < 6 + p → 0 < ln d' → bd v + ln v ≤ bd d' ∨ bd d' + ln d' ≤ bd v)) 10
    (fun s hs po m h => pk_le 10 10 (fun _ => ⟨by rcases hs with e | ⟨e, _⟩ <;> subst e <;> rfl, h⟩) (fun z => absurd z (by omega)))
    (fun d s hd hI => ?_) 0 0 (by omega) (Or.inr ⟨rfl, fun d' h => absurd h (by omega)⟩)) (fun r hr => ⟨r, hr.1, hr.2⟩)
  have hbv := hb v (by omega)
  by_cases c1 : d = v
  · refine ⟨s, hI.imp id (fun t => ⟨t.1, fun d' h1 h2 => t.2 d' (by omega) h2⟩), fun po m hw => pk_le 10 d (fun z => absurd z (by omega)) (fun _ => pk_eq d v (fun _ => br_t rfl (nm_r (nI_1 d) hw)) (fun z => absurd c1 z))⟩
  · by_cases c2 : 6 + p ≤ d
    · refine ⟨s, hI.imp id (fun t => ⟨t.1, fun d' h1 h2 h3 => t.2 d' (by omega) h2 h3⟩), fun po m hw => pk_le 10 d (fun z => absurd z (by omega)) (fun _ => pk_eq d v (fun z => absurd z c1) (fun _ => pk_le (6 + p) d (fun _ => br_t rfl (nm_r (nI_1 d) hw)) (fun z => absurd z (by omega)) (nI_add 6 p)))⟩
    · have hbd := hb d (by omega)
      have cd : (nI d).toNatClampNeg = d := nI_clamp (by omega)
      have cv : (nI v).toNatClampNeg = v := nI_clamp (by omega)
      have el : nI (ln (nI d).toNatClampNeg) = nI (ln d) := by rw [cd]
      by_cases c3 : ln d ≤ 0
      · refine ⟨s, hI.imp id (fun t => ⟨t.1, fun d' h1 h2 h3 h4 => t.2 d' (by
          by_cases e : d' = d
          · rw [e] at h4; omega
          · omega) h2 h3 h4⟩), fun po m hw => pk_le 10 d (fun z => absurd z (by omega)) (fun _ => pk_eq d v (fun z => absurd z c1) (fun _ => pk_le (6 + p) d (fun z => absurd z c2) (fun _ => ⟨pk_in d 10 hd, pk_le (ln d) 0 (fun _ => br_t rfl (nm_r (nI_1 d) hw)) (fun z => absurd z (by omega)) el⟩) (nI_add 6 p)))⟩
      · have ev : nI (bd (nI v).toNatClampNeg) + nI (ln (nI v).toNatClampNeg) = nI (bd v + ln v) := by rw [cv, nI_add]
        have ed : nI (bd (nI d).toNatClampNeg) + nI (ln (nI d).toNatClampNeg) = nI (bd d + ln d) := by rw [cd, nI_add]
        have fv : nI (bd (nI v).toNatClampNeg) = nI (bd v) := by rw [cv]
        have fd : nI (bd (nI d).toNatClampNeg) = nI (bd d) := by rw [cd]
        have w : ∀ (po : Int32 → Prop) (m : Nat), wX_shared_40 po (wX_shared_4 po (nI v) (nI k) (nI p) (nI b) a1 (fun d => nI (ln d)) (fun d => nI (bd d)) a4 a5 a6 m) (nI v) s (nI d) 1 (nI k) (nI p) (nI b) a1 (fun d => nI (ln d)) (fun d => nI (bd d)) a4 a5 a6 → wX_shared_4 po (nI v) (nI k) (nI p) (nI b) a1 (fun d => nI (ln d)) (fun d => nI (bd d)) a4 a5 a6 (m + 1) s (nI d) := fun po m hw =>
          pk_le 10 d (fun z => absurd z (by omega)) (fun _ => pk_eq d v (fun z => absurd z c1) (fun _ => pk_le (6 + p) d (fun z => absurd z c2) (fun _ => ⟨pk_in d 10 hd, pk_le (ln d) 0 (fun z => absurd z c3) (fun _ => hw) el⟩) (nI_add 6 p)))
        by_cases c4 : bd v + ln v ≤ bd d
        · refine ⟨s, hI.imp id (fun t => ⟨t.1, fun d' h1 h2 h3 h4 => ?_⟩), fun po m hw => w po m (br_f (by decide) ⟨pk_in d 10 hd, pk_in v 10 (by omega), pk_in v 10 (by omega), pk_le (bd v + ln v) (bd d) (fun _ => nm_r (nI_1 d) hw) (fun z => absurd z (by omega)) ev fd⟩)⟩
          by_cases e : d' = d
          · rw [e]; exact Or.inl c4
          · exact t.2 d' (by omega) h2 h3 h4
        · by_cases c5 : bd d + ln d ≤ bd v
          · refine ⟨s, hI.imp id (fun t => ⟨t.1, fun d' h1 h2 h3 h4 => ?_⟩), fun po m hw => w po m (br_f (by decide) ⟨pk_in d 10 hd, pk_in v 10 (by omega), pk_in v 10 (by omega), pk_le (bd v + ln v) (bd d) (fun z => absurd z c4) (fun _ => ⟨pk_in v 10 (by omega), pk_in d 10 hd, pk_in d 10 hd, pk_le (bd d + ln d) (bd v) (fun _ => nm_r (nI_1 d) hw) (fun z => absurd z (by omega)) ed fv⟩) ev fd⟩)⟩
            by_cases e : d' = d
            · rw [e]; exact Or.inr c5
            · exact t.2 d' (by omega) h2 h3 h4
          · exact ⟨1, Or.inl rfl, fun po m hw => w po m (br_f (by decide) ⟨pk_in d 10 hd, pk_in v 10 (by omega), pk_in v 10 (by omega), pk_le (bd v + ln v) (bd d) (fun z => absurd z c4) (fun _ => ⟨pk_in v 10 (by omega), pk_in d 10 hd, pk_in d 10 hd, pk_le (bd d + ln d) (bd v) (fun z => absurd z c5) (fun _ => nm_r (nI_1 d) hw) ed fv⟩) ev fd⟩)⟩
/-! setMid -/
theorem bs_141 {v i n : Nat} (hq : q ≤ 3) (hv : v < 6) (hi : 1 ≤ i) (hs : bd (6 + q) + n ≤ 144) (hd : bd v + i - 1 + n ≤ 144) :
    ∃ s : Nat → Int32, (∀ j, (j < bd v + i - 1 ∨ bd v + i - 1 + n ≤ j) → s j = a4 j) ∧ ∀ post : Int32 → St1 → Prop, post (nI n) (bs_st k q b a1 ln bd s a5 a6) →
      wX_setMid_141 post (nI v) (nI i) (nI (6 + q)) (nI n) (nI k) (nI (q + 1)) (nI b) a1 (fun d => nI (ln d)) (fun d => nI (bd d)) a4 a5 a6 := by
  obtain ⟨s, s1, s2⟩ := bs_copy (c1 := nI k) (c2 := nI (q + 1)) (c3 := nI b) (a1 := a1) (a2 := fun d => nI (ln d)) (a3 := fun d => nI (bd d)) (a4 := a4) (a5 := a5) (a6 := a6) (f := bd (6 + q)) (t := bd v + i - 1) (n := n) hs hd
  refine ⟨s, s1, fun post h => ⟨pk_in (6 + q) 10 (by omega), pk_in v 10 (by omega), ?_⟩⟩
  have e1 : nI (bd v) + nI i - 1 = nI (bd v + i - 1) := by
    rw [nI_add]
    exact pk_sub (a := bd v + i) (b := 1) (by omega)
  show wpX_copy _ _ (nI (bd (nI (6 + q)).toNatClampNeg)) (nI (bd (nI v).toNatClampNeg) + nI i - 1) _
  rw [nI_clamp (show 6 + q < 2 ^ 31 by omega), nI_clamp (show v < 2 ^ 31 by omega), e1]
  exact s2 _ (nm_r (nI_pred q) h)
theorem bs_71 {v i n : Nat} (hk : k ≤ 40) (h : bs_ok (q + 1) b ln bd) (hv : v < 6) (hi : 1 ≤ i) (hn1 : 1 ≤ n) (hn : n ≤ ln (6 + q)) (hn2 : i + n ≤ ln v + 1) :
    bs_R ln bd a4 (fun r v' => ¬ r < 0 ∧ v' = v) (fun post => wX_setMid_71 post (nI v) (nI i) (nI (6 + q)) (nI n) (nI k) (nI (q + 1)) (nI b) a1 (fun d => nI (ln d)) (fun d => nI (bd d)) a4 a5 a6) := by
  have hq := h.1
  obtain ⟨l1, l2, l3⟩ := h.2.2.1 (6 + q) (by omega)
  obtain ⟨v1, v2, v3⟩ := h.2.2.1 v (by omega)
  have cv : (nI v).toNatClampNeg = v := nI_clamp (by omega)
  obtain ⟨r, hr, hR⟩ := bs_shared (k := k) (b := b) (a1 := a1) (a4 := a4) (a5 := a5) (a6 := a6) h.1 hv (fun d hd => (h.2.2.1 d hd).2.1)
  rcases hr with e | ⟨e, hdj⟩
  · subst e
    obtain ⟨z, bd', a4', a5', a6', t1, t2, t3⟩ := bs_take (k := k) (a1 := a1) (a4 := a4) (a5 := a5) (a6 := a6) (n := ln v) h (by omega)
    have hz := t1.2.1
    obtain ⟨u1, u2, u3⟩ := t1.2.2.1 v (by omega)
    obtain ⟨w1, w2, w3⟩ := t1.2.2.1 (6 + q) (by omega)
    obtain ⟨s, s1, s2⟩ := bs_copy (c1 := nI k) (c2 := nI (q + 1)) (c3 := nI z) (a1 := a1) (a2 := fun d => nI (ln d)) (a3 := fun d => nI (bd' d)) (a4 := a4') (a5 := a5') (a6 := a6') (f := bd' v) (t := z) (n := ln v) u2 hz
    have e1 : bs_up bd' v z (6 + q) = bd' (6 + q) := bs_un (by omega)
    have e2 : bs_up bd' v z v = z := bs_us
    obtain ⟨s', s1', s2'⟩ := bs_141 (k := k) (b := z) (a1 := a1) (a4 := s) (a5 := a5') (a6 := a6') (ln := ln) (bd := bs_up bd' v z) (n := n) (show q ≤ 3 by omega) hv hi (by rw [e1]; omega) (by rw [e2]; omega)
    rw [e2] at s1'
    have fr : ∀ j, (j < z ∨ z + ln v ≤ j) → s' j = a4' j := fun j hj => by rw [s1' j (by omega), s1 j (by omega)]
    refine ⟨nI n, k, q, z, a1, ln, bs_up bd' v z, s', a5', a6', hk, ⟨by omega, by omega, fun d hd => ?_, (bs_ok_dn h).2.2.2⟩, fun v' hv' hc => ?_, fun post hp => ?_⟩
    · by_cases e : d = v
      · rw [e, bs_us]
        exact ⟨v1, hz, fun _ => Nat.le_refl _⟩
      · rw [bs_un e]
        have := t1.2.2.1 d (by omega)
        omega
    · have e : v' ≠ v := fun e => hc ⟨nI_pos (by omega), e⟩
      rw [bs_un e]
      exact ⟨rfl, fun j hj => by rw [bs_fr t1 fr (by omega) hj, t2 v' (by omega) j hj]⟩
    · refine br_t (nI_le (a := 1) hn1 (by omega)) (hR _ (br_f (by decide) ⟨pk_in v 10 (by omega), ?_⟩))
      rw [cv]
      refine t3 _ ⟨pk_in v 10 (by omega), pk_in v 10 (by omega), s2 _ ⟨pk_in v 10 (by omega), nm_r (bs_upE bd' v z) (s2' post hp)⟩⟩
  · subst e
    obtain ⟨s, s1, s2⟩ := bs_141 (k := k) (b := b) (a1 := a1) (a4 := a4) (a5 := a5) (a6 := a6) (ln := ln) (bd := bd) (n := n) (show q ≤ 3 by omega) hv hi (by omega) (by omega)
    refine ⟨nI n, k, q, b, a1, ln, bd, s, a5, a6, hk, bs_ok_dn h, fun v' hv' hc => ⟨rfl, fun j hj => ?_⟩, fun post hp => ?_⟩
    · have e : v' ≠ v := fun e => hc ⟨nI_pos (by omega), e⟩
      have := hdj v' (by omega) e (by omega) (by omega)
      exact s1 _ (by omega)
    · exact br_t (nI_le (a := 1) hn1 (by omega)) (hR _ (br_t rfl (s2 post hp)))
theorem bs_setMid {v i : Nat} (hk : k ≤ 40) (h : bs_ok p b ln bd) (hv : v < 6) (hi : 1 ≤ i) (hi2 : i ≤ 255) : bs_R ln bd a4 (fun r v' => ¬ r < 0 ∧ v' = v) (fun post => wpX_setMid post (bs_st k p b a1 ln bd a4 a5 a6) (nI v) (nI i)) := by
  cases p with
  | zero => exact bs_R_id (k' := k) (p' := 0) (-3) hk h (fun post hp => by
      unfold wpX_setMid
      exact bs_bv hv (br_t rfl (br_f (nI_nlt (b := 1) hi (by omega)) (br_t (nI_le (b := 255) hi2 (by decide)) (br_t rfl hp)))))
  | succ q =>
    have hq := h.1
    obtain ⟨l1, l2, l3⟩ := h.2.2.1 (6 + q) (by omega)
    obtain ⟨v1, v2, v3⟩ := h.2.2.1 v (by omega)
    have cd : (nI (6 + q)).toNatClampNeg = 6 + q := nI_clamp (by omega)
    have cv : (nI v).toNatClampNeg = v := nI_clamp (by omega)
    have ex : nI (ln v) - nI i + 1 = nI (ln v + 1) - nI i := by
      rw [nI_succ]
      grind
    by_cases hr : i ≤ ln v + 1
    · rw [pk_sub hr] at ex
      by_cases c : ln (6 + q) ≤ ln v + 1 - i
      · by_cases c1 : 1 ≤ ln (6 + q)
        · refine bs_R_t (bs_71 (a1 := a1) (a5 := a5) (a6 := a6) (i := i) (n := ln (6 + q)) hk h hv hi c1 (Nat.le_refl _) (by omega)) (fun _ _ c => c) (fun po hw => ?_)
          unfold wpX_setMid
          refine bs_bv hv (br_t rfl (br_f (nI_nlt (b := 1) hi (by omega)) (br_t (nI_le (b := 255) hi2 (by decide)) (br_f (nI_ne0 (by omega) (by omega)) (bs_top ?_)))))
          rw [cd, cv]
          exact ⟨pk_in v 10 (by omega), nm_r ex ⟨pk_in (6 + q) 10 (by omega), pk_le (ln (6 + q)) (ln v + 1 - i) (fun _ => ⟨pk_in (6 + q) 10 (by omega), hw⟩) (fun z => absurd z (by omega))⟩⟩
        · refine bs_R_id (k' := k) (p' := q) (a1' := a1) (a5' := a5) (a6' := a6) 0 hk (bs_ok_dn h) (fun post hp => ?_)
          unfold wpX_setMid
          refine bs_bv hv (br_t rfl (br_f (nI_nlt (b := 1) hi (by omega)) (br_t (nI_le (b := 255) hi2 (by decide)) (br_f (nI_ne0 (by omega) (by omega)) (bs_top ?_)))))
          rw [cd, cv]
          exact ⟨pk_in v 10 (by omega), nm_r ex ⟨pk_in (6 + q) 10 (by omega), pk_le (ln (6 + q)) (ln v + 1 - i) (fun _ => ⟨pk_in (6 + q) 10 (by omega), pk_le 1 (ln (6 + q)) (fun z => absurd z c1) (fun _ => nm_r (nI_pred q) hp)⟩) (fun z => absurd z (by omega))⟩⟩
      · by_cases c1 : 1 ≤ ln v + 1 - i
        · refine bs_R_t (bs_71 (a1 := a1) (a5 := a5) (a6 := a6) (i := i) (n := ln v + 1 - i) hk h hv hi c1 (by omega) (by omega)) (fun _ _ c => c) (fun po hw => ?_)
          unfold wpX_setMid
          refine bs_bv hv (br_t rfl (br_f (nI_nlt (b := 1) hi (by omega)) (br_t (nI_le (b := 255) hi2 (by decide)) (br_f (nI_ne0 (by omega) (by omega)) (bs_top ?_)))))
          rw [cd, cv]
          exact ⟨pk_in v 10 (by omega), nm_r ex ⟨pk_in (6 + q) 10 (by omega), pk_le (ln (6 + q)) (ln v + 1 - i) (fun z => absurd z c) (fun _ => hw)⟩⟩
        · refine bs_R_id (k' := k) (p' := q) (a1' := a1) (a5' := a5) (a6' := a6) 0 hk (bs_ok_dn h) (fun post hp => ?_)
          unfold wpX_setMid
          refine bs_bv hv (br_t rfl (br_f (nI_nlt (b := 1) hi (by omega)) (br_t (nI_le (b := 255) hi2 (by decide)) (br_f (nI_ne0 (by omega) (by omega)) (bs_top ?_)))))
          rw [cd, cv]
          exact ⟨pk_in v 10 (by omega), nm_r ex ⟨pk_in (6 + q) 10 (by omega), pk_le (ln (6 + q)) (ln v + 1 - i) (fun z => absurd z c) (fun _ => pk_le 1 (ln v + 1 - i) (fun z => absurd z c1) (fun _ => nm_r (nI_pred q) hp))⟩⟩
    · have hneg : nI (ln v + 1) - nI i < 0 := pk_sneg (by omega) (by omega)
      have n1 : ¬ nI (ln (6 + q)) ≤ nI (ln v + 1) - nI i := fun t => absurd hneg (Int32.not_lt.mpr (Int32.le_trans (nI_pos' (by omega)) t))
      have n2 : ¬ 1 ≤ nI (ln v + 1) - nI i := fun t => absurd hneg (Int32.not_lt.mpr (Int32.le_trans (by decide) t))
      refine bs_R_id (k' := k) (p' := q) (a1' := a1) (a5' := a5) (a6' := a6) 0 hk (bs_ok_dn h) (fun post hp => ?_)
      unfold wpX_setMid
      refine bs_bv hv (br_t rfl (br_f (nI_nlt (b := 1) hi (by omega)) (br_t (nI_le (b := 255) hi2 (by decide)) (br_f (nI_ne0 (by omega) (by omega)) (bs_top ?_)))))
      rw [cd, cv]
      exact ⟨pk_in v 10 (by omega), nm_r ex ⟨pk_in (6 + q) 10 (by omega), br_f n1 (br_f n2 (nm_r (nI_pred q) hp))⟩⟩
end
end
section
/-! 07: one turn -/
section
variable {k p b : Nat} {a1 a4 a5 a6 : Nat → Int32} {ln bd : Nat → Nat}
/-- which variables a turn may change: o the call, V and U the two variables -/
def bs_C (o V U : Nat) (r : Int32) (v : Nat) : Prop := ¬ r < 0 ∧ (((13 ≤ o ∧ o < 18) ∨ o = 28 ∨ o = 29) ∧ v = V ∨ o = 30 ∧ (v = V ∨ v = U))
theorem bs_R_n {C C' : Int32 → Nat → Prop} {W W' : (Int32 → St1 → Prop) → Prop} (h : bs_R ln bd a4 C W) (hc : ∀ r v, C r v → C' r v) (hw : ∀ po : Int32 → St1 → Prop, W po → W' po) : bs_R ln bd a4 C' W' := by
  obtain ⟨r, k', p', b', a1', ln', bd', a4', a5', a6', h1, h2, h3, h4⟩ := h
  exact ⟨r, k', p', b', a1', ln', bd', a4', a5', a6', h1, h2, fun v hv hn => h3 v hv (fun c => hn (hc r v c)), fun po hp => hw po (h4 _ hp)⟩
theorem bs_args (op x : Int32) : ∃ o V U : Nat, o < 32 ∧ V < 6 ∧ U < 6 ∧ op &&& 31 = nI o ∧ (x &&& 15) - (x &&& 15) / 6 * 6 = nI V ∧ ((x >>> ((4 : Int32) &&& 31)) &&& 15) - ((x >>> ((4 : Int32) &&& 31)) &&& 15) / 6 * 6 = nI U := by
  obtain ⟨o, ho, eo⟩ := pk_andE op (m := 31) 5 (by decide)
  obtain ⟨v, hv, ev⟩ := pk_andE x (m := 15) 4 (by decide)
  obtain ⟨u, hu, eu⟩ := pk_andE (x >>> ((4 : Int32) &&& 31)) (m := 15) 4 (by decide)
  refine ⟨o, v % 6, u % 6, ho, by omega, by omega, eo, ?_, ?_⟩
  · rw [ev]
    exact pk_rem (d := 6) (by omega) (by decide) (by decide)
  · rw [eu]
    exact pk_rem (d := 6) (by omega) (by decide) (by decide)
theorem bs_turn {op x : Int32} {o V U : Nat} (hk : k ≤ 40) (h : bs_ok p b ln bd) (ho : o < 32) (hV6 : V < 6) (hU6 : U < 6) (eo : op &&& 31 = nI o) (eV : (x &&& 15) - (x &&& 15) / 6 * 6 = nI V) (eU : ((x >>> ((4 : Int32) &&& 31)) &&& 15) - ((x >>> ((4 : Int32) &&& 31)) &&& 15) / 6 * 6 = nI U) :
    bs_R ln bd a4 (bs_C o V U) (fun post => wpL_turn post (bs_st k p b a1 ln bd a4 a5 a6) op x) := by
  obtain ⟨c3, h3, e3⟩ := pk_andE x (m := 3) 2 (by decide)
  obtain ⟨c7, h7, e7'⟩ := pk_andE x (m := 7) 3 (by decide)
  obtain ⟨s15, h15, e15⟩ := pk_andE (x >>> ((4 : Int32) &&& 31)) (m := 15) 4 (by decide)
  obtain ⟨s7, hs7, es7'⟩ := pk_andE (x >>> ((4 : Int32) &&& 31)) (m := 7) 3 (by decide)
  have e7 : 1 + (x &&& 7) = nI (c7 + 1) := by rw [e7', show (1 : Int32) = nI 1 from rfl, nI_add, Nat.add_comm]
  have es7 : 1 + ((x >>> ((4 : Int32) &&& 31)) &&& 7) = nI (s7 + 1) := by rw [es7', show (1 : Int32) = nI 1 from rfl, nI_add, Nat.add_comm]
  by_cases c : o < 5
  · exact bs_R_t (bs_key (C := fun _ _ => False) (a1 := a1) (a5 := a5) (a6 := a6) (c := c3) hk h (by omega)) (fun r v z => False.elim z) (fun po hw => nm_r eo ⟨by decide, nm_r eV ⟨by decide, nm_r eU (br_f (nI_ge (b := 5) (by omega) (by decide)) ((by rw [e3]; exact hw)))⟩⟩)
  have d0 : 5 ≤ o := by omega
  clear c
  by_cases c : o < 9
  · exact bs_R_t (bs_literal (C := fun _ _ => False) (a1 := a1) (a5 := a5) (a6 := a6) hk h) (fun r v z => False.elim z) (fun po hw => nm_r eo ⟨by decide, nm_r eV ⟨by decide, nm_r eU (br_t (nI_le (a := 5) (by omega) (by omega)) (br_f (nI_ge (b := 9) (by omega) (by decide)) (hw)))⟩⟩)
  have d1 : 9 ≤ o := by omega
  clear c
  by_cases c : o < 13
  · exact bs_R_t (bs_push (C := fun _ _ => False) (a1 := a1) (a5 := a5) (a6 := a6) hk h hV6) (fun r v z => False.elim z) (fun po hw => nm_r eo ⟨by decide, nm_r eV ⟨by decide, nm_r eU (br_t (nI_le (a := 5) (by omega) (by omega)) (br_t (nI_le (a := 9) (by omega) (by omega)) (br_f (nI_ge (b := 13) (by omega) (by decide)) (hw))))⟩⟩)
  have d2 : 13 ≤ o := by omega
  clear c
  by_cases c : o < 18
  · exact bs_R_t (bs_let (a1 := a1) (a5 := a5) (a6 := a6) hk h hV6) (fun r v z => ⟨z.1, Or.inl ⟨by omega, z.2⟩⟩) (fun po hw => nm_r eo ⟨by decide, nm_r eV ⟨by decide, nm_r eU (br_t (nI_le (a := 5) (by omega) (by omega)) (br_t (nI_le (a := 9) (by omega) (by omega)) (br_t (nI_le (a := 13) (by omega) (by omega)) (br_f (nI_ge (b := 18) (by omega) (by decide)) (hw)))))⟩⟩)
  have d3 : 18 ≤ o := by omega
  clear c
  by_cases c : o = 18
  · exact bs_R_t (bs_drop (C := fun _ _ => False) (a1 := a1) (a5 := a5) (a6 := a6) hk h) (fun r v z => False.elim z) (fun po hw => nm_r eo ⟨by decide, nm_r eV ⟨by decide, nm_r eU (br_t (nI_le (a := 5) (by omega) (by omega)) (br_t (nI_le (a := 9) (by omega) (by omega)) (br_t (nI_le (a := 13) (by omega) (by omega)) (br_t (nI_le (a := 18) (by omega) (by omega)) (br_t (show nI o = 18 from by rw [c]; rfl) (hw))))))⟩⟩)
  have d4 := c
  clear c
  by_cases c : o < 21
  · exact bs_R_t (bs_join (C := fun _ _ => False) (a1 := a1) (a5 := a5) (a6 := a6) hk h) (fun r v z => False.elim z) (fun po hw => nm_r eo ⟨by decide, nm_r eV ⟨by decide, nm_r eU (br_t (nI_le (a := 5) (by omega) (by omega)) (br_t (nI_le (a := 9) (by omega) (by omega)) (br_t (nI_le (a := 13) (by omega) (by omega)) (br_t (nI_le (a := 18) (by omega) (by omega)) (br_f (fun z => absurd ((nI_eq (b := 18) (by omega) (by decide)).mp z) (by omega)) (br_f (nI_ge (b := 21) (by omega) (by decide)) (hw)))))))⟩⟩)
  have d5 : 21 ≤ o := by omega
  clear c
  by_cases c : o = 21
  · exact bs_R_t (bs_left (C := fun _ _ => False) (a1 := a1) (a5 := a5) (a6 := a6) (n := s15) hk h (by omega)) (fun r v z => False.elim z) (fun po hw => nm_r eo ⟨by decide, nm_r eV ⟨by decide, nm_r eU (br_t (nI_le (a := 5) (by omega) (by omega)) (br_t (nI_le (a := 9) (by omega) (by omega)) (br_t (nI_le (a := 13) (by omega) (by omega)) (br_t (nI_le (a := 18) (by omega) (by omega)) (br_f (fun z => absurd ((nI_eq (b := 18) (by omega) (by decide)).mp z) (by omega)) (br_t (nI_le (a := 21) (by omega) (by omega)) (br_t (show nI o = 21 from by rw [c]; rfl) ((by rw [e15]; exact hw)))))))))⟩⟩)
  have d6 := c
  clear c
  by_cases c : o = 22
  · exact bs_R_t (bs_right (C := fun _ _ => False) (a1 := a1) (a5 := a5) (a6 := a6) (n := s15) hk h (by omega)) (fun r v z => False.elim z) (fun po hw => nm_r eo ⟨by decide, nm_r eV ⟨by decide, nm_r eU (br_t (nI_le (a := 5) (by omega) (by omega)) (br_t (nI_le (a := 9) (by omega) (by omega)) (br_t (nI_le (a := 13) (by omega) (by omega)) (br_t (nI_le (a := 18) (by omega) (by omega)) (br_f (fun z => absurd ((nI_eq (b := 18) (by omega) (by decide)).mp z) (by omega)) (br_t (nI_le (a := 21) (by omega) (by omega)) (br_f (fun z => absurd ((nI_eq (b := 21) (by omega) (by decide)).mp z) (by omega)) (br_t (show nI o = 22 from by rw [c]; rfl) ((by rw [e15]; exact hw))))))))))⟩⟩)
  have d7 := c
  clear c
  by_cases c : o < 25
  · exact bs_R_t (bs_mid (C := fun _ _ => False) (a1 := a1) (a5 := a5) (a6 := a6) (i := c7) (n := s15) hk h (by omega) (by omega)) (fun r v z => False.elim z) (fun po hw => nm_r eo ⟨by decide, nm_r eV ⟨by decide, nm_r eU (br_t (nI_le (a := 5) (by omega) (by omega)) (br_t (nI_le (a := 9) (by omega) (by omega)) (br_t (nI_le (a := 13) (by omega) (by omega)) (br_t (nI_le (a := 18) (by omega) (by omega)) (br_f (fun z => absurd ((nI_eq (b := 18) (by omega) (by decide)).mp z) (by omega)) (br_t (nI_le (a := 21) (by omega) (by omega)) (br_f (fun z => absurd ((nI_eq (b := 21) (by omega) (by decide)).mp z) (by omega)) (br_f (fun z => absurd ((nI_eq (b := 22) (by omega) (by decide)).mp z) (by omega)) (br_f (nI_ge (b := 25) (by omega) (by decide)) ((by rw [e15, e7]; exact hw)))))))))))⟩⟩)
  have d8 : 25 ≤ o := by omega
  clear c
  by_cases c : o < 27
  · exact bs_R_t (bs_repeat (C := fun _ _ => False) (a1 := a1) (a5 := a5) (a6 := a6) (n := s15) (c := c3) hk h (by omega) (by omega)) (fun r v z => False.elim z) (fun po hw => nm_r eo ⟨by decide, nm_r eV ⟨by decide, nm_r eU (br_t (nI_le (a := 5) (by omega) (by omega)) (br_t (nI_le (a := 9) (by omega) (by omega)) (br_t (nI_le (a := 13) (by omega) (by omega)) (br_t (nI_le (a := 18) (by omega) (by omega)) (br_f (fun z => absurd ((nI_eq (b := 18) (by omega) (by decide)).mp z) (by omega)) (br_t (nI_le (a := 21) (by omega) (by omega)) (br_f (fun z => absurd ((nI_eq (b := 21) (by omega) (by decide)).mp z) (by omega)) (br_f (fun z => absurd ((nI_eq (b := 22) (by omega) (by decide)).mp z) (by omega)) (br_t (nI_le (a := 25) (by omega) (by omega)) (br_f (nI_ge (b := 27) (by omega) (by decide)) ((by rw [e15, e3]; exact hw))))))))))))⟩⟩)
  have d9 : 27 ≤ o := by omega
  clear c
  by_cases c : o = 27
  · exact bs_R_t (bs_compare (C := fun _ _ => False) (a1 := a1) (a5 := a5) (a6 := a6) hk h) (fun r v z => False.elim z) (fun po hw => nm_r eo ⟨by decide, nm_r eV ⟨by decide, nm_r eU (br_t (nI_le (a := 5) (by omega) (by omega)) (br_t (nI_le (a := 9) (by omega) (by omega)) (br_t (nI_le (a := 13) (by omega) (by omega)) (br_t (nI_le (a := 18) (by omega) (by omega)) (br_f (fun z => absurd ((nI_eq (b := 18) (by omega) (by decide)).mp z) (by omega)) (br_t (nI_le (a := 21) (by omega) (by omega)) (br_f (fun z => absurd ((nI_eq (b := 21) (by omega) (by decide)).mp z) (by omega)) (br_f (fun z => absurd ((nI_eq (b := 22) (by omega) (by decide)).mp z) (by omega)) (br_t (nI_le (a := 25) (by omega) (by omega)) (br_t (nI_le (a := 27) (by omega) (by omega)) (br_t (show nI o = 27 from by rw [c]; rfl) (hw))))))))))))⟩⟩)
  have d10 := c
  clear c
  by_cases c : o < 30
  · exact bs_R_t (bs_setMid (a1 := a1) (a5 := a5) (a6 := a6) (i := s7 + 1) hk h hV6 (by omega) (by omega)) (fun r v z => ⟨z.1, Or.inl ⟨by omega, z.2⟩⟩) (fun po hw => nm_r eo ⟨by decide, nm_r eV ⟨by decide, nm_r eU (br_t (nI_le (a := 5) (by omega) (by omega)) (br_t (nI_le (a := 9) (by omega) (by omega)) (br_t (nI_le (a := 13) (by omega) (by omega)) (br_t (nI_le (a := 18) (by omega) (by omega)) (br_f (fun z => absurd ((nI_eq (b := 18) (by omega) (by decide)).mp z) (by omega)) (br_t (nI_le (a := 21) (by omega) (by omega)) (br_f (fun z => absurd ((nI_eq (b := 21) (by omega) (by decide)).mp z) (by omega)) (br_f (fun z => absurd ((nI_eq (b := 22) (by omega) (by decide)).mp z) (by omega)) (br_t (nI_le (a := 25) (by omega) (by omega)) (br_t (nI_le (a := 27) (by omega) (by omega)) (br_f (fun z => absurd ((nI_eq (b := 27) (by omega) (by decide)).mp z) (by omega)) (br_f (nI_ge (b := 30) (by omega) (by decide)) ((by rw [es7]; exact hw))))))))))))))⟩⟩)
  have d11 : 30 ≤ o := by omega
  clear c
  by_cases c : o = 30
  · exact bs_R_t (bs_swap (a1 := a1) (a5 := a5) (a6 := a6) hk h hU6 hV6) (fun r v z => ⟨z.1, Or.inr ⟨c, z.2⟩⟩) (fun po hw => nm_r eo ⟨by decide, nm_r eV ⟨by decide, nm_r eU (br_t (nI_le (a := 5) (by omega) (by omega)) (br_t (nI_le (a := 9) (by omega) (by omega)) (br_t (nI_le (a := 13) (by omega) (by omega)) (br_t (nI_le (a := 18) (by omega) (by omega)) (br_f (fun z => absurd ((nI_eq (b := 18) (by omega) (by decide)).mp z) (by omega)) (br_t (nI_le (a := 21) (by omega) (by omega)) (br_f (fun z => absurd ((nI_eq (b := 21) (by omega) (by decide)).mp z) (by omega)) (br_f (fun z => absurd ((nI_eq (b := 22) (by omega) (by decide)).mp z) (by omega)) (br_t (nI_le (a := 25) (by omega) (by omega)) (br_t (nI_le (a := 27) (by omega) (by omega)) (br_f (fun z => absurd ((nI_eq (b := 27) (by omega) (by decide)).mp z) (by omega)) (br_t (nI_le (a := 30) (by omega) (by omega)) (br_t (show nI o = 30 from by rw [c]; rfl) (hw))))))))))))))⟩⟩)
  have d12 := c
  clear c
  exact bs_R_n (bs_newLine (k := k) (C := fun _ _ => False) (a1 := a1) (a5 := a5) (a6 := a6) h) (fun r v z => False.elim z) (fun po hw => nm_r eo ⟨by decide, nm_r eV ⟨by decide, nm_r eU (br_t (nI_le (a := 5) (by omega) (by omega)) (br_t (nI_le (a := 9) (by omega) (by omega)) (br_t (nI_le (a := 13) (by omega) (by omega)) (br_t (nI_le (a := 18) (by omega) (by omega)) (br_f (fun z => absurd ((nI_eq (b := 18) (by omega) (by decide)).mp z) (by omega)) (br_t (nI_le (a := 21) (by omega) (by omega)) (br_f (fun z => absurd ((nI_eq (b := 21) (by omega) (by decide)).mp z) (by omega)) (br_f (fun z => absurd ((nI_eq (b := 22) (by omega) (by decide)).mp z) (by omega)) (br_t (nI_le (a := 25) (by omega) (by omega)) (br_t (nI_le (a := 27) (by omega) (by omega)) (br_f (fun z => absurd ((nI_eq (b := 27) (by omega) (by decide)).mp z) (by omega)) (br_t (nI_le (a := 30) (by omega) (by omega)) (br_f (fun z => absurd ((nI_eq (b := 30) (by omega) (by decide)).mp z) (by omega)) (hw))))))))))))))⟩⟩)
end
end
section
/-! 08: the law's loops -/
section
variable {k p b k0 p0 b0 : Nat} {a1 a4 a5 a6 c1 c4 c5 c6 : Nat → Int32} {ln bd ln0 bd0 : Nat → Nat}
theorem bs_len {post : Int32 → Prop} {v : Nat} (hv : v < 6) (h : post (nI (ln v))) : wpX_length post (bs_st k p b a1 ln bd a4 a5 a6) (nI v) := by
  unfold wpX_length
  refine bs_bv hv (br_t rfl ⟨pk_in v 10 (by omega), ?_⟩)
  show post (nI (ln (nI v).toNatClampNeg))
  rw [nI_clamp (by omega)]
  exact h
def bs_val (ln bd : Nat → Nat) (a4 : Nat → Int32) (v i : Nat) : Int32 := if 1 ≤ i ∧ i ≤ ln v then a4 (bd v + (i - 1)) else 0
theorem bs_at {post : Int32 → Prop} {v i : Nat} (hv : v < 6) (hi : i < 42) (hl : bd v + ln v ≤ 144) (h : post (bs_val ln bd a4 v i)) : wpX_at post (bs_st k p b a1 ln bd a4 a5 a6) (nI v) (nI i) := by
  unfold wpX_at
  refine bs_bv hv (br_t rfl (pk_lt i 1 (fun z => ?_) (fun z => ⟨pk_in v 10 (by omega), pk_le i (ln v) (fun z2 => ?_) (fun z2 => ?_) rfl (bs_rd v rfl (by omega))⟩)))
  · unfold bs_val at h
    rw [if_neg (by omega)] at h
    exact h
  · unfold bs_val at h
    rw [if_pos (by omega)] at h
    have e : nI (bd (nI v).toNatClampNeg) + nI i - 1 = nI (bd v + (i - 1)) := by
      rw [nI_clamp (by omega), nI_add, show bd v + i = bd v + (i - 1) + 1 by omega]
      exact nI_pred _
    refine ⟨pk_in v 10 (by omega), pk_in (bd v + (i - 1)) 144 (by omega) e, ?_⟩
    show post (a4 (nI (bd (nI v).toNatClampNeg) + nI i - 1).toNatClampNeg)
    rw [e, nI_clamp (by omega)]
    exact h
  · unfold bs_val at h
    rw [if_neg (by omega)] at h
    exact h
/-- one string in two states -/
def bs_Q (ln bd : Nat → Nat) (a4 : Nat → Int32) (ln0 bd0 : Nat → Nat) (c4 : Nat → Int32) (v : Nat) : Prop := ln v = ln0 v ∧ ∀ i, i < ln0 v → a4 (bd v + i) = c4 (bd0 v + i)
theorem bs_valQ {v i : Nat} (h : bs_Q ln bd a4 ln0 bd0 c4 v) : bs_val ln bd a4 v i = bs_val ln0 bd0 c4 v i := by
  unfold bs_val
  rw [h.1]
  by_cases c : 1 ≤ i ∧ i ≤ ln0 v
  · rw [if_pos c, if_pos c]
    exact h.2 _ (by omega)
  · rw [if_neg c, if_neg c]
theorem bs_equal {post : Int32 → Prop} {v : Nat} (hv : v < 6) (hl : bd v + ln v ≤ 144) (hl0 : bd0 v + ln0 v ≤ 144) (hq : bs_Q ln bd a4 ln0 bd0 c4 v) (h : post 1) : wpL_equal post (nI k, nI p, nI b, a1, (fun d => nI (ln d)), (fun d => nI (bd d)), a4, a5, a6, nI k0, nI p0, nI b0, c1, (fun d => nI (ln0 d)), (fun d => nI (bd0 d)), c4, c5, c6) (nI v) := by
  unfold wpL_equal
  refine bs_len hv (bs_len hv (br_t (by rw [hq.1]) ?_))
  exact pk_loop (σ := Unit) (fun n i _ => wL_equal_17 post (nI v) (nI k) (nI p) (nI b) a1 (fun d => nI (ln d)) (fun d => nI (bd d)) a4 a5 a6 (nI k0) (nI p0) (nI b0) c1 (fun d => nI (ln0 d)) (fun d => nI (bd0 d)) c4 c5 c6 n (nI i)) (fun _ _ => True) 42 0 () (by omega) trivial
    (fun n _ _ => pk_le 42 42 (fun _ => h) (fun z => absurd z (by omega)))
    (fun n i _ hi _ hw => pk_le 42 i (fun z => absurd z (by omega)) (fun _ => bs_at hv hi hl (bs_at hv hi hl0 (br_t (bs_valQ hq) (nm_r (nI_1 i) (hw () trivial))))))
section
variable {post : Int32 → Prop} {L : Nat} {xs : Nat → Int32} {J : Int32 → Int32 → Prop} {x4 r : Int32} {o V U s v kc ks : Nat}
theorem bs_231 (hv : v < 6) (hJ : J (nI (s + ln v)) (nI (v + 1))) : wL_law_231 post L xs J x4 (nI o) r (nI s) (nI v) kc ks (nI k) (nI p) (nI b) a1 (fun d => nI (ln d)) (fun d => nI (bd d)) a4 a5 a6 (nI k0) (nI p0) (nI b0) c1 (fun d => nI (ln0 d)) (fun d => nI (bd0 d)) c4 c5 c6 := by
  unfold wL_law_231
  exact bs_len hv (nm_r (nI_add s (ln v)) (nm_r (nI_1 v) hJ))
theorem bs_219 (hv : v < 6) (hl : bd v + ln v ≤ 144) (hl0 : bd0 v + ln0 v ≤ 144) (hq : bs_Q ln bd a4 ln0 bd0 c4 v) (hJ : J (nI (s + ln v)) (nI (v + 1))) : wL_law_219 post L xs J x4 (nI o) r (nI s) (nI v) kc ks (nI k) (nI p) (nI b) a1 (fun d => nI (ln d)) (fun d => nI (bd d)) a4 a5 a6 (nI k0) (nI p0) (nI b0) c1 (fun d => nI (ln0 d)) (fun d => nI (bd0 d)) c4 c5 c6 := by
  unfold wL_law_219
  exact bs_equal hv hl hl0 hq (br_f (by decide) (bs_231 hv hJ))
theorem bs_207 {x9 z0 : Int32} (hv : v < 6) (hl : bd v + ln v ≤ 144) (hl0 : bd0 v + ln0 v ≤ 144) (hq : x9 = 0 ∨ z0 = 0 → bs_Q ln bd a4 ln0 bd0 c4 v) (hJ : J (nI (s + ln v)) (nI (v + 1))) : wL_law_207 post L xs J x4 (nI o) r (nI s) (nI v) x9 z0 kc ks (nI k) (nI p) (nI b) a1 (fun d => nI (ln d)) (fun d => nI (bd d)) a4 a5 a6 (nI k0) (nI p0) (nI b0) c1 (fun d => nI (ln0 d)) (fun d => nI (bd0 d)) c4 c5 c6 :=
  br_c (fun z => bs_219 hv hl hl0 (hq (Or.inl z)) hJ) (fun _ => br_c (fun z => bs_219 hv hl hl0 (hq (Or.inr z)) hJ) (fun _ => bs_231 hv hJ))
theorem bs_181 {x9 : Int32} (ho : o < 32) (hv : v < 6) (hl : bd v + ln v ≤ 144) (hl0 : bd0 v + ln0 v ≤ 144) (h0 : ¬ (o = 28 ∨ o = 29 ∨ o = 30) → bs_Q ln bd a4 ln0 bd0 c4 v) (h1 : x9 = 0 → bs_Q ln bd a4 ln0 bd0 c4 v) (hJ : J (nI (s + ln v)) (nI (v + 1))) : wL_law_181 post L xs J x4 (nI o) r (nI s) (nI v) x9 kc ks (nI k) (nI p) (nI b) a1 (fun d => nI (ln d)) (fun d => nI (bd d)) a4 a5 a6 (nI k0) (nI p0) (nI b0) c1 (fun d => nI (ln0 d)) (fun d => nI (bd0 d)) c4 c5 c6 := by
  have w : wL_law_202 post L xs J x4 (nI o) r (nI s) (nI v) x9 kc ks (nI k) (nI p) (nI b) a1 (fun d => nI (ln d)) (fun d => nI (bd d)) a4 a5 a6 (nI k0) (nI p0) (nI b0) c1 (fun d => nI (ln0 d)) (fun d => nI (bd0 d)) c4 c5 c6 := by
    unfold wL_law_202
    exact bs_207 hv hl hl0 (fun z => h1 (z.resolve_right (by decide))) hJ
  refine pk_eq o 28 (fun _ => w) (fun z1 => pk_eq o 29 (fun _ => w) (fun z2 => pk_eq o 30 (fun _ => w) (fun z3 => ?_)))
  unfold wL_law_206
  exact bs_207 hv hl hl0 (fun _ => h0 (by omega)) hJ
theorem bs_160 {x9 : Int32} (ho : o < 32) (hv : v < 6) (hl : bd v + ln v ≤ 144) (hl0 : bd0 v + ln0 v ≤ 144) (h0 : r < 0 ∨ ¬ ((13 ≤ o ∧ o < 18) ∨ o = 28 ∨ o = 29 ∨ o = 30) → bs_Q ln bd a4 ln0 bd0 c4 v) (h1 : x9 = 0 → bs_Q ln bd a4 ln0 bd0 c4 v) (hJ : J (nI (s + ln v)) (nI (v + 1))) : wL_law_160 post L xs J x4 (nI o) r (nI s) (nI v) x9 kc ks (nI k) (nI p) (nI b) a1 (fun d => nI (ln d)) (fun d => nI (bd d)) a4 a5 a6 (nI k0) (nI p0) (nI b0) c1 (fun d => nI (ln0 d)) (fun d => nI (bd0 d)) c4 c5 c6 := by
  refine br_c (fun z => ?_) (fun _ => pk_lt o 13 (fun z1 => bs_181 ho hv hl hl0 (fun z2 => h0 (Or.inr (by omega))) h1 hJ) (fun z1 => pk_lt o 18 (fun z2 => ?_) (fun z2 => bs_181 ho hv hl hl0 (fun z3 => h0 (Or.inr (by omega))) h1 hJ)))
  · unfold wL_law_206
    exact bs_207 hv hl hl0 (fun _ => h0 (Or.inl z)) hJ
  · unfold wL_law_202
    exact bs_207 hv hl hl0 (fun z => h1 (z.resolve_right (by decide))) hJ
end
theorem bs_322 {post : Int32 → Prop} {L : Nat} {xs : Nat → Int32} {t kc ks : Nat} (ht : t ≤ 100) (h : post 1) : wL_law_322 post L xs (nI t) (nI t) kc ks (nI k) (nI 0) (nI b) a1 (fun d => nI (ln d)) (fun d => nI (bd d)) a4 a5 a6 :=
  br_t rfl (br_f (nI_nlt (a := 100) ht (by decide)) (br_t rfl (bs_drop0 (br_t rfl h))))
theorem bs_267 {post : Int32 → Prop} {L : Nat} {xs : Nat → Int32} {kc ks : Nat} (hp : p ≤ 4) (hs : bs_sum ln (6 + p) ≤ 100) (h : post 1) :
    ∀ q i t, q + i = p → t + bs_sum ln (6 + q) = bs_sum ln 6 + bs_sum ln (6 + p) → ∃ n, wL_law_267 post L xs (nI (bs_sum ln (6 + p))) (nI p) kc ks n (nI t) (nI (bs_sum ln (6 + q))) (nI i) (nI k) (nI q) (nI b) a1 (fun d => nI (ln d)) (fun d => nI (bd d)) a4 a5 a6 := by
  intro q
  induction q with
  | zero =>
    intro i t hi ht
    have e : t = bs_sum ln (6 + p) := by
      rw [show 6 + 0 = 6 from rfl] at ht
      omega
    subst e
    exact ⟨1, pk_le 4 i (fun _ => bs_322 hs h) (fun _ => pk_le p i (fun _ => bs_322 hs h) (fun z => absurd z (by omega)))⟩
  | succ q ih =>
    intro i t hi ht
    have e1 : bs_sum ln (6 + (q + 1)) = bs_sum ln (6 + q) + ln (6 + q) := rfl
    have hb := bs_sum_mono (f := ln) (show 6 + (q + 1) ≤ 6 + p by omega)
    obtain ⟨n, hn⟩ := ih (i + 1) (t + ln (6 + q)) (by omega) (by omega)
    have e2 : nI (bs_sum ln (6 + (q + 1))) - nI (ln (6 + q)) = nI (bs_sum ln (6 + q)) := by
      rw [e1, pk_sub (by omega), Nat.add_sub_cancel]
    exact ⟨n + 1, pk_le 4 i (fun z => absurd z (by omega)) (fun _ => pk_le p i (fun z => absurd z (by omega)) (fun _ => bs_dropS (by omega) (nm_r (nI_add t (ln (6 + q))) (nm_r e2 (br_f (nI_pos (by omega)) (bs_used (by omega) (br_t rfl (nm_r (nI_1 i) hn))))))))⟩
theorem bs_113 {post : Int32 → Prop} {L : Nat} {xs : Nat → Int32} {x4 r : Int32} {o V U kc ks : Nat} (h : bs_ok p b ln bd) (h' : bs_ok p0 b0 ln0 bd0) (ho : o < 32) (hV : V < 6) (hU : U < 6)
    (eV : (x4 &&& 15) - (x4 &&& 15) / 6 * 6 = nI V) (eU : ((x4 >>> ((4 : Int32) &&& 31)) &&& 15) - ((x4 >>> ((4 : Int32) &&& 31)) &&& 15) / 6 * 6 = nI U)
    (hq : ∀ v, v < 6 → ¬ bs_C o V U r v → bs_Q ln bd a4 ln0 bd0 c4 v) (hp : post 1) : ∃ n, wL_law_113 post L xs x4 (nI o) r kc ks (nI k) (nI p) (nI b) a1 (fun d => nI (ln d)) (fun d => nI (bd d)) a4 a5 a6 (nI k0) (nI p0) (nI b0) c1 (fun d => nI (ln0 d)) (fun d => nI (bd0 d)) c4 c5 c6 n 0 0 := by
  have hp4 := h.1
  refine pk_loop (σ := Unit) (fun n v _ => wL_law_113 post L xs x4 (nI o) r kc ks (nI k) (nI p) (nI b) a1 (fun d => nI (ln d)) (fun d => nI (bd d)) a4 a5 a6 (nI k0) (nI p0) (nI b0) c1 (fun d => nI (ln0 d)) (fun d => nI (bd0 d)) c4 c5 c6 n (nI (bs_sum ln v)) (nI v)) (fun _ _ => True) 6 0 () (by omega) trivial
    (fun n _ _ => pk_le 6 6 (fun _ => bs_used h.1 ?_) (fun z => absurd z (by omega))) (fun n v _ hv _ hw => ?_)
  · exact bs_267 h.1 h.2.2.2 hp p 0 (bs_sum ln 6) (by omega) (by omega)
  · have hl := (h.2.2.1 v (by omega)).2.1
    have hl0 := (h'.2.2.1 v (by omega)).2.1
    have hJ : wL_law_113 post L xs x4 (nI o) r kc ks (nI k) (nI p) (nI b) a1 (fun d => nI (ln d)) (fun d => nI (bd d)) a4 a5 a6 (nI k0) (nI p0) (nI b0) c1 (fun d => nI (ln0 d)) (fun d => nI (bd0 d)) c4 c5 c6 n (nI (bs_sum ln v + ln v)) (nI (v + 1)) := hw () trivial
    have n0 : r < 0 ∨ ¬ ((13 ≤ o ∧ o < 18) ∨ o = 28 ∨ o = 29 ∨ o = 30) → bs_Q ln bd a4 ln0 bd0 c4 v := fun z => hq v hv (fun c => z.elim (fun z => c.1 z) (fun z => z (by have := c.2; omega)))
    have w1 : wL_law_155 post L xs (wL_law_113 post L xs x4 (nI o) r kc ks (nI k) (nI p) (nI b) a1 (fun d => nI (ln d)) (fun d => nI (bd d)) a4 a5 a6 (nI k0) (nI p0) (nI b0) c1 (fun d => nI (ln0 d)) (fun d => nI (bd0 d)) c4 c5 c6 n) x4 (nI o) r (nI (bs_sum ln v)) (nI v) kc ks (nI k) (nI p) (nI b) a1 (fun d => nI (ln d)) (fun d => nI (bd d)) a4 a5 a6 (nI k0) (nI p0) (nI b0) c1 (fun d => nI (ln0 d)) (fun d => nI (bd0 d)) c4 c5 c6 := by
      unfold wL_law_155
      exact bs_160 ho hv hl hl0 n0 (fun z => absurd z (by decide)) hJ
    have w0 : ¬ v = V → (o = 30 → ¬ v = U) → wL_law_159 post L xs (wL_law_113 post L xs x4 (nI o) r kc ks (nI k) (nI p) (nI b) a1 (fun d => nI (ln d)) (fun d => nI (bd d)) a4 a5 a6 (nI k0) (nI p0) (nI b0) c1 (fun d => nI (ln0 d)) (fun d => nI (bd0 d)) c4 c5 c6 n) x4 (nI o) r (nI (bs_sum ln v)) (nI v) kc ks (nI k) (nI p) (nI b) a1 (fun d => nI (ln d)) (fun d => nI (bd d)) a4 a5 a6 (nI k0) (nI p0) (nI b0) c1 (fun d => nI (ln0 d)) (fun d => nI (bd0 d)) c4 c5 c6 := fun z1 z2 => by
      unfold wL_law_159
      exact bs_160 ho hv hl hl0 n0 (fun _ => hq v hv (fun c => by have := c.2; omega)) hJ
    exact pk_le 6 v (fun z => absurd z (by omega)) (fun _ => ⟨by decide, pk_eq v V (fun _ => w1) (fun z1 => pk_eq o 30 (fun z2 => ⟨by decide, pk_eq v U (fun _ => w1) (fun z3 => w0 z1 (fun _ => z3)) rfl eU⟩) (fun z2 => w0 z1 (fun z => absurd z z2))) rfl eV⟩)
end
end
section
/-! 09: the script's loop, and what is owed -/
theorem bs_47 {post : Int32 → Prop} {L : Nat} {xs : Nat → Int32} {x3 x4 : Int32} {kc ks : Nat} (hL : L ≤ 260) (hp : post 1) :
    ∀ (m j k p b : Nat) (a1 : Nat → Int32) (ln bd : Nat → Nat) (a4 a5 a6 : Nat → Int32), j ≤ 262 → L < j + m → k ≤ 40 → bs_ok p b ln bd →
      ∃ n, wL_law_47 post L xs x3 x4 kc ks n (nI j) (nI k) (nI p) (nI b) a1 (fun d => nI (ln d)) (fun d => nI (bd d)) a4 a5 a6 (nI k) (nI p) (nI b) a1 (fun d => nI (ln d)) (fun d => nI (bd d)) a4 a5 a6 := by
  have exit : ∀ (j k p b : Nat) (a1 : Nat → Int32) (ln bd : Nat → Nat) (a4 a5 a6 : Nat → Int32), j ≤ 262 → L ≤ j + 1 → k ≤ 40 → bs_ok p b ln bd →
      ∃ n, wL_law_47 post L xs x3 x4 kc ks n (nI j) (nI k) (nI p) (nI b) a1 (fun d => nI (ln d)) (fun d => nI (bd d)) a4 a5 a6 (nI k) (nI p) (nI b) a1 (fun d => nI (ln d)) (fun d => nI (bd d)) a4 a5 a6 := by
    intro j k p b a1 ln bd a4 a5 a6 hj hl hk h
    obtain ⟨o, V, U, ho, hV, hU, eo, eV, eU⟩ := bs_args x3 x4
    obtain ⟨r, k', p', b', a1', ln', bd', a4', a5', a6', h1, h2, h3, h4⟩ := bs_turn (a1 := a1) (a4 := a4) (a5 := a5) (a6 := a6) hk h ho hV hU eo eV eU
    exact ⟨1, pk_le L (j + 1) (fun _ => nm_r eo (h4 _ (bs_113 h2 h ho hV hU eV eU h3 hp))) (fun z => absurd z (by omega)) rfl (nI_1 j)⟩
  intro m
  induction m with
  | zero => intro j k p b a1 ln bd a4 a5 a6 hj hm hk h; exact exit j k p b a1 ln bd a4 a5 a6 hj (by omega) hk h
  | succ m ih =>
    intro j k p b a1 ln bd a4 a5 a6 hj hm hk h
    by_cases c : L ≤ j + 1
    · exact exit j k p b a1 ln bd a4 a5 a6 hj c hk h
    · obtain ⟨o, V, U, ho, hV, hU, eo, eV, eU⟩ := bs_args (xs (nI j).toNatClampNeg) (xs (nI j + 1).toNatClampNeg)
      obtain ⟨r, k', p', b', a1', ln', bd', a4', a5', a6', h1, h2, h3, h4⟩ := bs_turn (a1 := a1) (a4 := a4) (a5 := a5) (a6 := a6) hk h ho hV hU eo eV eU
      obtain ⟨n, hn⟩ := ih (j + 2) k' p' b' a1' ln' bd' a4' a5' a6' (by omega) (by omega) h1 h2
      exact ⟨n + 1, pk_le L (j + 1) (fun z => absurd z c) (fun _ => ⟨pk_in j L (by omega), pk_in (j + 1) L (by omega) (nI_1 j), h4 _ ⟨pk_in j L (by omega), pk_in (j + 1) L (by omega) (nI_1 j), h4 _ (nm_r (nI_add j 2) hn)⟩⟩) rfl (nI_1 j)⟩
theorem bs_28 {post : Int32 → Prop} {L : Nat} {xs : Nat → Int32} {z0 : Int32} {kc ks : Nat} (hL : L ≤ 260) (hp : post 1) :
    wL_law_28 post L xs z0 kc ks 0 0 144 (fun _ => 0) (fun _ => 0) (fun _ => 0) (fun _ => 0) (fun _ => 0) (fun _ => 0) 0 0 144 (fun _ => 0) (fun _ => 0) (fun _ => 0) (fun _ => 0) (fun _ => 0) (fun _ => 0) := by
  have ok : bs_ok 0 144 (fun _ => 0) (fun _ => 0) := ⟨by omega, by omega, fun d _ => ⟨Nat.zero_le _, Nat.zero_le _, fun h => absurd h (Nat.lt_irrefl 0)⟩, by decide⟩
  have run : ∀ x4 : Int32, ∃ n, wL_law_47 post L xs z0 x4 kc ks n 2 0 0 144 (fun _ => 0) (fun _ => 0) (fun _ => 0) (fun _ => 0) (fun _ => 0) (fun _ => 0) 0 0 144 (fun _ => 0) (fun _ => 0) (fun _ => 0) (fun _ => 0) (fun _ => 0) (fun _ => 0) := fun x4 =>
    bs_47 (x4 := x4) hL hp 260 2 0 0 144 (fun _ => 0) (fun _ => 0) (fun _ => 0) (fun _ => 0) (fun _ => 0) (fun _ => 0) (by omega) (by omega) (by omega) ok
  exact pk_le L 1 (fun _ => run 0) (fun z => ⟨pk_in 1 L z, nm_e (run _)⟩)
theorem i_vc (xs : Nat → Int32) (L : Nat) (hL : L ≤ 260) : wpL_law (fun r => r = 1) L xs :=
  ⟨6, 492, by omega, by omega, by omega, by omega, by omega, by omega, by omega, by omega, by omega, by omega, by omega, by omega, by omega, by omega, by omega, by omega,
    6, 492, by omega, by omega, by omega, by omega, by omega, by omega, by omega, by omega, by omega, by omega, by omega, by omega, by omega, by omega,
    pk_le L 0 (fun _ => bs_28 hL rfl) (fun z => ⟨pk_in 0 L z, bs_28 hL rfl⟩)⟩
end
