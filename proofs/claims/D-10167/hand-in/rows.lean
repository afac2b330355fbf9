section
/-- how many cells of f below c are not 0 -/
def sk_c (f : Nat → Int32) : Nat → Nat
  | 0 => 0
  | c + 1 => if f c = 0 then sk_c f c else sk_c f c + 1
theorem sk_cz {f : Nat → Int32} {c : Nat} (h : f c = 0) : sk_c f (c + 1) = sk_c f c := by
  show (if f c = 0 then sk_c f c else sk_c f c + 1) = _
  exact if_pos h
theorem sk_cn {f : Nat → Int32} {c : Nat} (h : ¬ f c = 0) : sk_c f (c + 1) = sk_c f c + 1 := by
  show (if f c = 0 then sk_c f c else sk_c f c + 1) = _
  exact if_neg h
theorem sk_cle (f : Nat → Int32) (c : Nat) : sk_c f c ≤ c := by
  induction c with
  | zero => exact Nat.le_refl 0
  | succ c ih =>
    by_cases h : f c = 0
    · rw [sk_cz h]; omega
    · rw [sk_cn h]; omega
theorem sk_mono (f : Nat → Int32) {c d : Nat} (h : c ≤ d) : sk_c f c ≤ sk_c f d := by
  induction d with
  | zero =>
    have e : c = 0 := by omega
    rw [e]
    exact Nat.le_refl _
  | succ d ih =>
    by_cases e : c = d + 1
    · rw [e]
      exact Nat.le_refl _
    · have q := ih (by omega)
      by_cases h : f d = 0
      · rw [sk_cz h]; exact q
      · rw [sk_cn h]; omega
theorem sk_diff (f : Nat → Int32) {c d : Nat} (h : c ≤ d) : sk_c f d ≤ sk_c f c + (d - c) := by
  induction d with
  | zero =>
    have e : c = 0 := by omega
    rw [e]
    exact Nat.le_add_right _ _
  | succ d ih =>
    by_cases e : c = d + 1
    · rw [e]
      exact Nat.le_add_right _ _
    · have q := ih (by omega)
      by_cases h : f d = 0
      · rw [sk_cz h]; omega
      · rw [sk_cn h]; omega
theorem sk_lt {f : Nat → Int32} {c d : Nat} (h : c < d) (hf : ¬ f c = 0) : sk_c f c < sk_c f d := by
  have q := sk_mono f (show c + 1 ≤ d from h)
  rw [sk_cn hf] at q
  omega
theorem sk_flat {f : Nat → Int32} {c d : Nat} (h : c ≤ d) (hz : ∀ y, c ≤ y → y < d → f y = 0) : sk_c f d = sk_c f c := by
  induction d with
  | zero =>
    have e : c = 0 := by omega
    rw [e]
  | succ d ih =>
    by_cases e : c = d + 1
    · rw [e]
    · rw [sk_cz (hz d (by omega) (by omega))]
      exact ih (by omega) (fun y h1 h2 => hz y h1 (by omega))
theorem sk_congr {f g : Nat → Int32} (c : Nat) (h : ∀ y, y < c → f y = g y) : sk_c f c = sk_c g c := by
  induction c with
  | zero => rfl
  | succ c ih =>
    have q := ih (fun y hy => h y (by omega))
    by_cases e : f c = 0
    · rw [sk_cz e, sk_cz (by rw [← h c (by omega)]; exact e), q]
    · rw [sk_cn e, sk_cn (by rw [← h c (by omega)]; exact e), q]
/-- x: the next cell that isn't 0 from c on, or the end e -/
def sk_X (f : Nat → Int32) (c e x : Nat) : Prop := c ≤ x ∧ x ≤ e ∧ (∀ y, c ≤ y → y < x → f y = 0) ∧ (x < e → ¬ f x = 0)
theorem sk_nxt0 (f : Nat → Int32) : ∀ d c : Nat, ∃ x, sk_X f c (c + d) x := by
  intro d
  induction d with
  | zero =>
    intro c
    exact ⟨c, Nat.le_refl c, Nat.le_refl _, fun y h1 h2 => absurd h2 (by omega), fun h => absurd h (by omega)⟩
  | succ d ih =>
    intro c
    by_cases hf : f c = 0
    · obtain ⟨x, h1, h2, h3, h4⟩ := ih (c + 1)
      refine ⟨x, by omega, by omega, fun y q1 q2 => ?_, fun q => h4 (by omega)⟩
      by_cases hy : y = c
      · rw [hy]; exact hf
      · exact h3 y (by omega) q2
    · exact ⟨c, Nat.le_refl c, by omega, fun y h1 h2 => absurd h2 (by omega), fun _ => hf⟩
theorem sk_nxt (f : Nat → Int32) {c e : Nat} (h : c ≤ e) : ∃ x, sk_X f c e x := by
  obtain ⟨x, hx⟩ := sk_nxt0 f (e - c) c
  rw [show c + (e - c) = e by omega] at hx
  exact ⟨x, hx⟩
theorem sk_Xc {f : Nat → Int32} {c e x : Nat} (h : sk_X f c e x) : sk_c f x = sk_c f c := sk_flat h.1 h.2.2.1
theorem sk_Xlt {f : Nat → Int32} {c e x : Nat} (h : sk_X f c e x) : sk_c f c < sk_c f e ↔ x < e := by
  rw [← sk_Xc h]
  constructor
  · intro q
    have h2 := h.2.1
    by_cases hx : x = e
    · rw [hx] at q
      omega
    · omega
  · intro q
    exact sk_lt q (h.2.2.2 q)
/-- the cell of the k-th entry -/
theorem sk_at (f : Nat → Int32) : ∀ e k : Nat, k < sk_c f e → ∃ x, x < e ∧ ¬ f x = 0 ∧ sk_c f x = k := by
  intro e
  induction e with
  | zero =>
    intro k h
    exact absurd h (Nat.not_lt_zero k)
  | succ e ih =>
    intro k h
    by_cases hf : f e = 0
    · rw [sk_cz hf] at h
      obtain ⟨x, h1, h2, h3⟩ := ih k h
      exact ⟨x, by omega, h2, h3⟩
    · rw [sk_cn hf] at h
      by_cases hk : k = sk_c f e
      · exact ⟨e, by omega, hf, hk.symm⟩
      · obtain ⟨x, h1, h2, h3⟩ := ih k (by omega)
        exact ⟨x, by omega, h2, h3⟩
theorem sk_atr (f : Nat → Int32) {b e k : Nat} (hb : sk_c f b ≤ k) (hk : k < sk_c f e) : ∃ x, b ≤ x ∧ x < e ∧ ¬ f x = 0 ∧ sk_c f x = k := by
  obtain ⟨x, h1, h2, h3⟩ := sk_at f e k hk
  refine ⟨x, ?_, h1, h2, h3⟩
  rcases Nat.lt_or_ge x b with z | z
  · have := sk_lt z h2
    omega
  · exact z
/-- a walk over the entries of one row: the pointer is b + sk_c f c -/
theorem sk_row {σ : Type} (W : Nat → Int32 → σ → Prop) (I : Nat → σ → Prop) (f : Nat → Int32) (b e : Nat)
    (hz : ∀ c x s, c ≤ x → x ≤ e → (∀ y, c ≤ y → y < x → f y = 0) → I c s → I x s)
    (hx : ∀ n s, I e s → W (n + 1) (nI (b + sk_c f e)) s)
    (hs : ∀ n c s, c < e → ¬ f c = 0 → I c s → (∀ s', I (c + 1) s' → W n (nI (b + sk_c f c + 1)) s') → W (n + 1) (nI (b + sk_c f c)) s) :
    ∀ c s, c ≤ e → I c s → ∃ n, W n (nI (b + sk_c f c)) s := by
  have key : ∀ d c s, c ≤ e → e - c ≤ d → I c s → W (d + 1) (nI (b + sk_c f c)) s := by
    intro d
    induction d with
    | zero =>
      intro c s h1 h2 h3
      have hc : c = e := by omega
      rw [hc]
      rw [hc] at h3
      exact hx 0 s h3
    | succ d ih =>
      intro c s h1 h2 h3
      obtain ⟨x, q1, q2, q3, q4⟩ := sk_nxt f h1
      have hc : sk_c f x = sk_c f c := sk_flat q1 q3
      have hI := hz c x s q1 q2 q3 h3
      rw [← hc]
      by_cases hxe : x < e
      · refine hs (d + 1) x s hxe (q4 hxe) hI (fun s' h' => ?_)
        have t := ih (x + 1) s' (by omega) (by omega) h'
        rw [sk_cn (q4 hxe)] at t
        exact t
      · have he : x = e := by omega
        rw [he]
        rw [he] at hI
        exact hx (d + 1) s hI
  exact fun c s h1 h2 => ⟨e - c + 1, key (e - c) c s h1 (Nat.le_refl _) h2⟩
/-- sums -/
def sk_s (h : Nat → Int32) : Nat → Int32
  | 0 => 0
  | n + 1 => sk_s h n + h n
theorem sk_s1 (h : Nat → Int32) (n : Nat) : sk_s h (n + 1) = sk_s h n + h n := rfl
theorem sk_sz {h : Nat → Int32} {c d : Nat} (hc : c ≤ d) (hz : ∀ y, c ≤ y → y < d → h y = 0) : sk_s h d = sk_s h c := by
  induction d with
  | zero =>
    have e : c = 0 := by omega
    rw [e]
  | succ d ih =>
    by_cases e : c = d + 1
    · rw [e]
    · rw [sk_s1, hz d (by omega) (by omega), Int32.add_zero]
      exact ih (by omega) (fun y h1 h2 => hz y h1 (by omega))
theorem sk_scongr {h g : Nat → Int32} (n : Nat) (e : ∀ y, y < n → h y = g y) : sk_s h n = sk_s g n := by
  induction n with
  | zero => rfl
  | succ n ih => rw [sk_s1, sk_s1, ih (fun y hy => e y (by omega)), e n (by omega)]
end
section
theorem sk_b8 : ∀ n, n < 128 → (nI n).toInt8.toInt32 = nI n := by decide +kernel
theorem sk_m7 (s i : Nat) : nI s * 7 + nI i = nI (s * 7 + i) := by
  rw [show (7 : Int32) = nI 7 from rfl, pk_mul, nI_add]
theorem sk_m36 (s i : Nat) : nI s * 36 + nI i = nI (s * 36 + i) := by
  rw [show (36 : Int32) = nI 36 from rfl, pk_mul, nI_add]
/-- slot s holds the matrix f -/
def sk_R (f : Nat → Int32) (s : Nat) (a1 a2 a3 : Nat → Int32) : Prop := (∀ i, i ≤ 6 → a1 (s * 7 + i) = nI (sk_c f (6 * i))) ∧ ∀ c, c < 36 → ¬ f c = 0 → a2 (s * 36 + sk_c f c) = nI (c % 6) ∧ a3 (s * 36 + sk_c f c) = f c
/-- all slots -/
def sk_P (M : Nat → Nat → Int32) (a1 a2 a3 : Nat → Int32) : Prop := ∀ s, s < 5 → sk_R (M s) s a1 a2 a3
def sk_Q (M : Nat → Nat → Int32) (u : St1) : Prop := sk_P M u.2.1 u.2.2.1 u.2.2.2.1
def sk_up (M : Nat → Nat → Int32) (t : Nat) (g : Nat → Int32) : Nat → Nat → Int32 := fun s => if s = t then g else M s
theorem sk_ups (M : Nat → Nat → Int32) (t : Nat) (g : Nat → Int32) : sk_up M t g t = g := if_pos rfl
theorem sk_upn (M : Nat → Nat → Int32) {s t : Nat} (g : Nat → Int32) (h : s ≠ t) : sk_up M t g s = M s := if_neg h
/-- the matrix g is being made: its cells below c, the starts of its rows up to r -/
def sk_B (g : Nat → Int32) (c r : Nat) (m : Int32) (a4 a5 a6 : Nat → Int32) : Prop := m = nI (sk_c g c) ∧ (∀ i, i ≤ r → a4 i = nI (sk_c g (6 * i))) ∧ ∀ x, x < c → ¬ g x = 0 → a5 (sk_c g x) = nI (x % 6) ∧ a6 (sk_c g x) = g x
theorem sk_in {f : Nat → Int32} {s c : Nat} (hs : s < 5) (hc : c < 36) : vp_in (nI (s * 36 + sk_c f c)) 180 := by
  have l := sk_cle f c
  exact vp_in_nI (by omega) (by omega)
theorem sk_cl {f : Nat → Int32} {s c : Nat} (hs : s < 5) (hc : c < 36) : (nI (s * 36 + sk_c f c)).toNatClampNeg = s * 36 + sk_c f c := by
  have l := sk_cle f c
  exact nI_clamp (by omega)
theorem sk_a2 {f : Nat → Int32} {s c : Nat} {a1 a2 a3 : Nat → Int32} (hR : sk_R f s a1 a2 a3) (hs : s < 5) (hc : c < 36) (hf : ¬ f c = 0) : a2 (nI (s * 36 + sk_c f c)).toNatClampNeg = nI (c % 6) := by
  rw [sk_cl hs hc]
  exact (hR.2 c hc hf).1
theorem sk_a3 {f : Nat → Int32} {s c : Nat} {a1 a2 a3 : Nat → Int32} (hR : sk_R f s a1 a2 a3) (hs : s < 5) (hc : c < 36) (hf : ¬ f c = 0) : a3 (nI (s * 36 + sk_c f c)).toNatClampNeg = f c := by
  rw [sk_cl hs hc]
  exact (hR.2 c hc hf).2
theorem sk_slot {post : Int32 → Prop} {u : St2} {s : Nat} (hs : s < 5) (H : post 1) : wpX_isSlot post u (nI s) :=
  br_f (nI_pos (by omega)) (br_f (nI_ge (b := 5) hs (by decide)) H)
theorem sk_index {post : Int32 → Prop} {u : St2} {s : Nat} (hs : s < 6) (H : post 1) : wpX_isIndex post u (nI s) :=
  br_f (nI_pos (by omega)) (br_f (nI_ge (b := 6) hs (by decide)) H)
theorem sk_from {post : Int32 → Prop} {m : Int32} {a1 a2 a3 a4 a5 a6 a7 : Nat → Int32} {f : Nat → Int32} {s i : Nat} (hR : sk_R f s a1 a2 a3) (hs : s < 5) (hi : i < 6) (H : post (nI (s * 36 + sk_c f (6 * i)))) : wpX_from post (m, a1, a2, a3, a4, a5, a6, a7) (nI s) (nI i) := by
  show vp_in (nI s * 7 + nI i) 35 ∧ post (nI s * 36 + a1 (nI s * 7 + nI i).toNatClampNeg)
  rw [sk_m7, nI_clamp (by omega), hR.1 i (by omega), sk_m36]
  exact ⟨vp_in_nI (by omega) (by omega), H⟩
theorem sk_upTo {post : Int32 → Prop} {m : Int32} {a1 a2 a3 a4 a5 a6 a7 : Nat → Int32} {f : Nat → Int32} {s i : Nat} (hR : sk_R f s a1 a2 a3) (hs : s < 5) (hi : i < 6) (H : post (nI (s * 36 + sk_c f (6 * (i + 1))))) : wpX_upTo post (m, a1, a2, a3, a4, a5, a6, a7) (nI s) (nI i) := by
  show vp_in (nI s * 7 + nI i + 1) 35 ∧ post (nI s * 36 + a1 (nI s * 7 + nI i + 1).toNatClampNeg)
  rw [sk_m7, nI_1, nI_clamp (by omega), Nat.add_assoc, hR.1 (i + 1) (by omega), sk_m36]
  exact ⟨vp_in_nI (by omega) (by omega), H⟩
theorem sk_begin {post : St1 → Prop} {m : Int32} {a1 a2 a3 a4 a5 a6 a7 : Nat → Int32} (g : Nat → Int32) (H : ∀ b4, sk_B g (6 * 0) 0 0 b4 a5 a6 → post (0, a1, a2, a3, b4, a5, a6, a7)) : wpX_begin post (m, a1, a2, a3, a4, a5, a6, a7) := by
  intro b4 e
  refine H b4 ⟨rfl, fun i hi => ?_, fun x hx => absurd hx (by omega)⟩
  have h0 : i = 0 := by omega
  rw [e, h0, pk_us]
  rfl
theorem sk_emit {post : St1 → Prop} {m : Int32} {a1 a2 a3 a4 a5 a6 a7 : Nat → Int32} {g : Nat → Int32} {c r : Nat} {x y : Int32} (hB : sk_B g c r m a4 a5 a6) (hc : c < 36) (hx : x = nI (c % 6)) (hy : y = g c) (H : ∀ m' b5 b6, sk_B g (c + 1) r m' a4 b5 b6 → post (m', a1, a2, a3, a4, b5, b6, a7)) : wpX_emit post (m, a1, a2, a3, a4, a5, a6, a7) x y := by
  subst hx hy
  obtain ⟨hm, h4, h5⟩ := hB
  subst hm
  have hle := sk_cle g c
  by_cases hg : g c = 0
  · refine br_t hg (H _ _ _ ⟨by rw [sk_cz hg], h4, fun z hz hn => ?_⟩)
    by_cases e : z = c
    · exact absurd (show g z = 0 by rw [e]; exact hg) hn
    · exact h5 z (by omega) hn
  · refine br_f hg ⟨vp_in_nI (by omega) (by omega), nm_e ⟨vp_in_nI (by omega) (by omega), nm_e (nm_r (nI_1 _) (H _ _ _ ⟨by rw [sk_cn hg], h4, fun z hz hn => ?_⟩))⟩⟩
    rw [nI_clamp (by omega)]
    by_cases e : z = c
    · rw [e, pk_us, pk_us]
      exact ⟨sk_b8 _ (by omega), rfl⟩
    · have l := sk_lt (show z < c by omega) hn
      rw [pk_un (by omega), pk_un (by omega)]
      exact h5 z (by omega) hn
theorem sk_skip {g : Nat → Int32} {c d r : Nat} {m : Int32} {a4 a5 a6 : Nat → Int32} (h : sk_B g c r m a4 a5 a6) (hcd : c ≤ d) (hz : ∀ y, c ≤ y → y < d → g y = 0) : sk_B g d r m a4 a5 a6 := by
  refine ⟨by rw [sk_flat hcd hz]; exact h.1, h.2.1, fun x hx hn => ?_⟩
  by_cases e : x < c
  · exact h.2.2 x e hn
  · exact absurd (hz x (by omega) hx) hn
theorem sk_end {post : St1 → Prop} {m : Int32} {a1 a2 a3 a4 a5 a6 a7 : Nat → Int32} {g : Nat → Int32} {i : Nat} (hB : sk_B g (6 * (i + 1)) i m a4 a5 a6) (hi : i < 6) (H : ∀ b4, sk_B g (6 * (i + 1)) (i + 1) m b4 a5 a6 → post (m, a1, a2, a3, b4, a5, a6, a7)) : wpX_endRow post (m, a1, a2, a3, a4, a5, a6, a7) (nI i) := by
  obtain ⟨hm, h4, h5⟩ := hB
  subst hm
  have hle := sk_cle g (6 * (i + 1))
  refine ⟨by rw [nI_1]; exact vp_in_nI (by omega) (by omega), nm_e (H _ ⟨rfl, fun j hj => ?_, h5⟩)⟩
  rw [nI_1, nI_clamp (by omega), sk_b8 _ (by omega)]
  by_cases e : j = i + 1
  · rw [e, pk_us]
  · rw [pk_un e]
    exact h4 j (by omega)
theorem sk_store33 {post : Int32 → St1 → Prop} {a1 a2 a3 a4 a5 a6 a7 : Nat → Int32} {t K : Nat} (ht : t < 5) (hK : K ≤ 36) (h5 : ∀ j, j < K → vp_nar .byte (a5 j) = a5 j)
    (H : ∀ b2 b3, (∀ j, j < K → b2 (t * 36 + j) = a5 j ∧ b3 (t * 36 + j) = a6 j) → (∀ q, (q < t * 36 ∨ t * 36 + 36 ≤ q) → b2 q = a2 q ∧ b3 q = a3 q) → post (nI K) (nI K, a1, b2, b3, a4, a5, a6, a7)) : ∃ n, wX_store_33 post (nI t) (nI K) n 0 a1 a2 a3 a4 a5 a6 a7 := by
  refine pk_loop (fun n i s => wX_store_33 post (nI t) (nI K) n (nI i) a1 s.1 s.2 a4 a5 a6 a7) (fun i s => (∀ j, j < i → s.1 (t * 36 + j) = a5 j ∧ s.2 (t * 36 + j) = a6 j) ∧ ∀ q, (q < t * 36 ∨ t * 36 + 36 ≤ q) → s.1 q = a2 q ∧ s.2 q = a3 q) K 0 (a2, a3) (by omega) ⟨fun j hj => absurd hj (by omega), fun q _ => ⟨rfl, rfl⟩⟩ ?_ ?_
  · intro n s h
    exact pk_le K K (fun _ => H s.1 s.2 h.1 h.2) (fun z => absurd z (by omega))
  · intro n i s hi h hw
    refine pk_le K i (fun z => absurd z (by omega)) (fun _ => ⟨pk_in i 36 (by omega), ?_, nm_r (e' := upd s.1 (t * 36 + i) (a5 i)) ?_ ⟨pk_in i 36 (by omega), ?_, nm_r (e' := upd s.2 (t * 36 + i) (a6 i)) ?_ (nm_r (nI_1 i) (hw (_, _) ⟨fun j hj => ?_, fun q hq => ?_⟩))⟩⟩)
    · rw [sk_m36]
      exact vp_in_nI (by omega) (by omega)
    · rw [sk_m36, nI_clamp (by omega), nI_clamp (by omega), h5 i hi]
    · rw [sk_m36]
      exact vp_in_nI (by omega) (by omega)
    · rw [sk_m36, nI_clamp (by omega), nI_clamp (by omega)]
    · show upd s.1 (t * 36 + i) (a5 i) (t * 36 + j) = a5 j ∧ upd s.2 (t * 36 + i) (a6 i) (t * 36 + j) = a6 j
      by_cases e : j = i
      · rw [e, pk_us, pk_us]
        exact ⟨rfl, rfl⟩
      · rw [pk_un (by omega), pk_un (by omega)]
        exact h.1 j (by omega)
    · show upd s.1 (t * 36 + i) (a5 i) q = a2 q ∧ upd s.2 (t * 36 + i) (a6 i) q = a3 q
      rw [pk_un (by omega), pk_un (by omega)]
      exact h.2 q hq
theorem sk_store {post : Int32 → St1 → Prop} {M : Nat → Nat → Int32} {g : Nat → Int32} {m : Int32} {a1 a2 a3 a4 a5 a6 a7 : Nat → Int32} {t : Nat} (hP : sk_P M a1 a2 a3) (hB : sk_B g (6 * 6) 6 m a4 a5 a6) (ht : t < 5)
    (H : ∀ r v, sk_Q (sk_up M t g) v → post r v) : wpX_store post (m, a1, a2, a3, a4, a5, a6, a7) (nI t) := by
  obtain ⟨hm, h4, h5⟩ := hB
  subst hm
  have hle := sk_cle g (6 * 6)
  refine pk_loop (fun n i s => wX_store_2 post (nI t) (nI (sk_c g (6 * 6))) n (nI i) s a2 a3 a4 a5 a6 a7) (fun i s => (∀ j, j < i → s (t * 7 + j) = a4 j) ∧ ∀ q, (q < t * 7 ∨ t * 7 + 7 ≤ q) → s q = a1 q) 7 0 a1 (by omega) ⟨fun j hj => absurd hj (by omega), fun q _ => rfl⟩ ?_ ?_
  · intro n s h
    refine pk_lt 6 7 (fun _ => sk_store33 ht (by omega) (fun j hj => ?_) (fun b2 b3 q1 q2 => H _ _ ?_)) (fun z => absurd z (by omega))
    · obtain ⟨x, x1, x2, x3⟩ := sk_at g (6 * 6) j hj
      have e5 := (h5 x x1 x2).1
      rw [x3] at e5
      rw [e5, vp_nar_byte, sk_b8 _ (by omega)]
    · intro s' hs'
      show sk_R (sk_up M t g s') s' s b2 b3
      by_cases e : s' = t
      · rw [e, sk_ups]
        refine ⟨fun i hi => ?_, fun c hc hn => ?_⟩
        · rw [h.1 i (by omega), h4 i hi]
        · have l := sk_lt (show c < 6 * 6 by omega) hn
          rw [(q1 _ l).1, (q1 _ l).2]
          exact h5 c (by omega) hn
      · rw [sk_upn M g e]
        have o := hP s' hs'
        refine ⟨fun i hi => ?_, fun c hc hn => ?_⟩
        · rw [h.2 _ (by omega)]
          exact o.1 i hi
        · have l := sk_cle (M s') c
          have q := q2 (s' * 36 + sk_c (M s') c) (by omega)
          rw [q.1, q.2]
          exact o.2 c hc hn
  · intro n i s hi h hw
    refine pk_lt 6 i (fun z => absurd z (by omega)) (fun _ => ⟨pk_in i 7 hi, ?_, nm_r (e' := upd s (t * 7 + i) (a4 i)) ?_ (nm_r (nI_1 i) (hw _ ⟨fun j hj => ?_, fun q hq => ?_⟩))⟩)
    · rw [sk_m7]
      exact vp_in_nI (by omega) (by omega)
    · have l := sk_cle g (6 * i)
      rw [sk_m7, nI_clamp (by omega), nI_clamp (by omega), h4 i (by omega), vp_nar_byte, sk_b8 _ (by omega)]
    · by_cases e : j = i
      · rw [e, pk_us]
      · rw [pk_un (by omega)]
        exact h.1 j (by omega)
    · rw [pk_un (by omega)]
      exact h.2 q hq
end
section
abbrev Sk_J : Type := Int32 → Int32 → (Nat → Int32) → (Nat → Int32) → (Nat → Int32) → (Nat → Int32) → (Nat → Int32) → (Nat → Int32) → (Nat → Int32) → Prop
theorem sk_scale39 {post : Int32 → St1 → Prop} {J : Sk_J} {x1 x3 m : Int32} {a1 a2 a3 a4 a5 a6 a7 f g : Nat → Int32} {a i : Nat} (hR : sk_R f a a1 a2 a3) (ha : a < 5) (hi : i < 6) (hg : ∀ c, g c = f c * x3) (hB : sk_B g (6 * i) i m a4 a5 a6)
    (H : ∀ m' b4 b5 b6, sk_B g (6 * (i + 1)) (i + 1) m' b4 b5 b6 → J (nI (i + 1)) m' a1 a2 a3 b4 b5 b6 a7) : ∃ n, wX_scale_39 post J x1 (nI a) x3 (nI i) n (nI (a * 36 + sk_c f (6 * i))) m a1 a2 a3 a4 a5 a6 a7 := by
  have le := sk_cle f (6 * (i + 1))
  refine sk_row (σ := Int32 × (Nat → Int32) × (Nat → Int32)) (fun n k s => wX_scale_39 post J x1 (nI a) x3 (nI i) n k s.1 a1 a2 a3 a4 s.2.1 s.2.2 a7) (fun c s => sk_B g c i s.1 a4 s.2.1 s.2.2) f (a * 36) (6 * (i + 1)) ?_ ?_ ?_ (6 * i) (m, a5, a6) (by omega) hB
  · intro c x s h1 h2 h3 h
    exact sk_skip h h1 (fun y q1 q2 => by rw [hg, h3 y q1 q2, Int32.zero_mul])
  · intro n s h
    rw [wX_scale_39]
    refine sk_upTo hR ha hi (pk_le (a * 36 + sk_c f (6 * (i + 1))) (a * 36 + sk_c f (6 * (i + 1))) (fun _ => sk_end h hi (fun b4 hb => nm_r (nI_1 i) (H _ _ _ _ hb))) (fun z => absurd z (by omega)))
  · intro n c s h1 h2 h hw
    have lc := sk_cle f c
    have lt := sk_lt h1 h2
    rw [wX_scale_39]
    refine sk_upTo hR ha hi (pk_le (a * 36 + sk_c f (6 * (i + 1))) (a * 36 + sk_c f c) (fun z => absurd z (by omega)) (fun _ => ⟨sk_in ha (by omega), sk_in ha (by omega), sk_emit h (by omega) (sk_a2 hR ha (by omega) h2) ?_ (fun m' b5 b6 hb => nm_r (nI_1 _) (hw (m', b5, b6) hb))⟩))
    rw [sk_a3 hR ha (by omega) h2, hg]
theorem sk_scale {post : Int32 → St1 → Prop} {M : Nat → Nat → Int32} {u : St1} {t a : Nat} {x3 : Int32} (hQ : sk_Q M u) (ht : t < 5) (ha : a < 5) (H : ∀ r v, sk_Q (sk_up M t (fun c => M a c * x3)) v → post r v) : wpX_scale post u (nI t) (nI a) x3 := by
  obtain ⟨m, a1, a2, a3, a4, a5, a6, a7⟩ := u
  have hP : sk_P M a1 a2 a3 := hQ
  rw [wpX_scale]
  refine sk_slot ht (br_f (by decide) (sk_slot ha (br_f (by decide) (sk_begin (fun c => M a c * x3) (fun b4 hb => ?_)))))
  exact pk_loop (fun n i s => wX_scale_23 post (nI t) (nI a) x3 n (nI i) s.1 a1 a2 a3 s.2.1 s.2.2.1 s.2.2.2 a7) (fun i s => sk_B (fun c => M a c * x3) (6 * i) i s.1 s.2.1 s.2.2.1 s.2.2.2) 6 0 (0, b4, a5, a6) (by omega) hb
    (fun n s h => pk_le 6 6 (fun _ => sk_store hP h ht (fun r v hv => H r v hv)) (fun z => absurd z (by omega)))
    (fun n i s hi h hw => pk_le 6 i (fun z => absurd z (by omega)) (fun _ => sk_from (hP a ha) ha hi (sk_scale39 (hP a ha) ha hi (fun _ => rfl) h (fun m' b4 b5 b6 hb => hw (m', b4, b5, b6) hb))))
/-- select -/
def sk_sel (p : Int32) (f : Nat → Int32) : Nat → Int32 := fun c => if (p >>> (nI (c / 6) &&& 31)) &&& 1 = 0 then 0 else if (p >>> ((6 + nI (c % 6)) &&& 31)) &&& 1 = 0 then 0 else f c
theorem sk_sel0 {p : Int32} {f : Nat → Int32} {c i : Nat} (h : (p >>> (nI i &&& 31)) &&& 1 = 0) (hc : c / 6 = i) : sk_sel p f c = 0 := by
  unfold sk_sel
  rw [hc, if_pos h]
theorem sk_sel1 {p : Int32} {f : Nat → Int32} {c : Nat} (h : f c = 0) : sk_sel p f c = 0 := by
  unfold sk_sel
  rw [h]
  split
  · rfl
  · split <;> rfl
theorem sk_sel2 {p : Int32} {f : Nat → Int32} {c : Nat} (h : (p >>> ((6 + nI (c % 6)) &&& 31)) &&& 1 = 0) : sk_sel p f c = 0 := by
  unfold sk_sel
  split
  · rfl
  · rfl
theorem sk_sel3 {p : Int32} {f : Nat → Int32} {c i : Nat} (h : ¬ (p >>> (nI i &&& 31)) &&& 1 = 0) (hc : c / 6 = i) (h2 : ¬ (p >>> ((6 + nI (c % 6)) &&& 31)) &&& 1 = 0) : sk_sel p f c = f c := by
  unfold sk_sel
  rw [hc, if_neg h, if_neg h2]
theorem sk_sel124 {post : Int32 → St1 → Prop} {J : Sk_J} {x1 x2 x3 m : Int32} {a1 a2 a3 a4 a5 a6 a7 g : Nat → Int32} {i : Nat} (hi : i < 6) (hB : sk_B g (6 * (i + 1)) i m a4 a5 a6)
    (H : ∀ m' b4 b5 b6, sk_B g (6 * (i + 1)) (i + 1) m' b4 b5 b6 → J (nI (i + 1)) m' a1 a2 a3 b4 b5 b6 a7) : wX_select_124 post J x1 x2 x3 (nI i) m a1 a2 a3 a4 a5 a6 a7 := by
  unfold wX_select_124
  exact sk_end hB hi (fun b4 hb => nm_r (nI_1 i) (H _ _ _ _ hb))
theorem sk_sel66a {post : Int32 → St1 → Prop} {J : Sk_J} {x1 p m : Int32} {a1 a2 a3 a4 a5 a6 a7 f : Nat → Int32} {a i : Nat} (hR : sk_R f a a1 a2 a3) (ha : a < 5) (hi : i < 6) (hp : (p >>> (nI i &&& 31)) &&& 1 = 0) (hB : sk_B (sk_sel p f) (6 * i) i m a4 a5 a6)
    (H : ∀ m' b4 b5 b6, sk_B (sk_sel p f) (6 * (i + 1)) (i + 1) m' b4 b5 b6 → J (nI (i + 1)) m' a1 a2 a3 b4 b5 b6 a7) : ∃ n, wX_select_66 post J x1 (nI a) p (nI i) 0 n (nI (a * 36 + sk_c f (6 * i))) m a1 a2 a3 a4 a5 a6 a7 := by
  have hB' : sk_B (sk_sel p f) (6 * (i + 1)) i m a4 a5 a6 := sk_skip hB (by omega) (fun y q1 q2 => sk_sel0 hp (by omega))
  refine ⟨1, ?_⟩
  rw [wX_select_66]
  exact sk_upTo hR ha hi (br_c (fun _ => sk_sel124 hi hB' H) (fun _ => br_t rfl (sk_sel124 hi hB' H)))
theorem sk_sel66b {post : Int32 → St1 → Prop} {J : Sk_J} {x1 p m : Int32} {a1 a2 a3 a4 a5 a6 a7 f : Nat → Int32} {a i : Nat} (hR : sk_R f a a1 a2 a3) (ha : a < 5) (hi : i < 6) (hp : ¬ (p >>> (nI i &&& 31)) &&& 1 = 0) (hB : sk_B (sk_sel p f) (6 * i) i m a4 a5 a6)
    (H : ∀ m' b4 b5 b6, sk_B (sk_sel p f) (6 * (i + 1)) (i + 1) m' b4 b5 b6 → J (nI (i + 1)) m' a1 a2 a3 b4 b5 b6 a7) : ∃ n, wX_select_66 post J x1 (nI a) p (nI i) 1 n (nI (a * 36 + sk_c f (6 * i))) m a1 a2 a3 a4 a5 a6 a7 := by
  have le := sk_cle f (6 * (i + 1))
  refine sk_row (σ := Int32 × (Nat → Int32) × (Nat → Int32)) (fun n k s => wX_select_66 post J x1 (nI a) p (nI i) 1 n k s.1 a1 a2 a3 a4 s.2.1 s.2.2 a7) (fun c s => 6 * i ≤ c ∧ sk_B (sk_sel p f) c i s.1 a4 s.2.1 s.2.2) f (a * 36) (6 * (i + 1)) ?_ ?_ ?_ (6 * i) (m, a5, a6) (by omega) ⟨Nat.le_refl _, hB⟩
  · intro c x s h1 h2 h3 h
    exact ⟨Nat.le_trans h.1 h1, sk_skip h.2 h1 (fun y q1 q2 => sk_sel1 (h3 y q1 q2))⟩
  · intro n s h
    rw [wX_select_66]
    exact sk_upTo hR ha hi (pk_le (a * 36 + sk_c f (6 * (i + 1))) (a * 36 + sk_c f (6 * (i + 1))) (fun _ => sk_sel124 hi h.2 H) (fun z => absurd z (by omega)))
  · intro n c s h1 h2 h hw
    have lc := sk_cle f c
    have lt := sk_lt h1 h2
    have l6 := h.1
    rw [wX_select_66]
    refine sk_upTo hR ha hi (pk_le (a * 36 + sk_c f (6 * (i + 1))) (a * 36 + sk_c f c) (fun z => absurd z (by omega)) (fun _ => br_f (by decide) ⟨sk_in ha (by omega), ?_⟩))
    rw [sk_a2 hR ha (by omega) h2, sk_a3 hR ha (by omega) h2]
    refine br_c (fun z => nm_r (nI_1 _) (hw s ⟨by omega, sk_skip h.2 (by omega) (fun y q1 q2 => ?_)⟩)) (fun z => ⟨sk_in ha (by omega), sk_in ha (by omega), sk_emit h.2 (by omega) rfl (sk_sel3 hp (by omega) z).symm (fun m' b5 b6 hb => nm_r (nI_1 _) (hw (m', b5, b6) ⟨by omega, hb⟩))⟩)
    have e : y = c := by omega
    rw [e]
    exact sk_sel2 z
theorem sk_select {post : Int32 → St1 → Prop} {M : Nat → Nat → Int32} {u : St1} {t a : Nat} {p : Int32} (hQ : sk_Q M u) (ht : t < 5) (ha : a < 5) (hp0 : ¬ p < 0) (hp1 : p ≤ 4095) (H : ∀ r v, sk_Q (sk_up M t (sk_sel p (M a))) v → post r v) : wpX_select post u (nI t) (nI a) p := by
  obtain ⟨m, a1, a2, a3, a4, a5, a6, a7⟩ := u
  have hP : sk_P M a1 a2 a3 := hQ
  rw [wpX_select]
  refine sk_slot ht (br_f (by decide) (sk_slot ha (br_f (by decide) (br_f hp0 (br_t hp1 (sk_begin (sk_sel p (M a)) (fun b4 hb => ?_)))))))
  refine pk_loop (fun n i s => wX_select_34 post (nI t) (nI a) p n (nI i) s.1 a1 a2 a3 s.2.1 s.2.2.1 s.2.2.2 a7) (fun i s => sk_B (sk_sel p (M a)) (6 * i) i s.1 s.2.1 s.2.2.1 s.2.2.2) 6 0 (0, b4, a5, a6) (by omega) hb
    (fun n s h => pk_le 6 6 (fun _ => sk_store hP h ht (fun r v hv => H r v hv)) (fun z => absurd z (by omega))) ?_
  intro n i s hi h hw
  refine pk_le 6 i (fun z => absurd z (by omega)) (fun _ => br_c (fun z => ?_) (fun z => ?_))
  · unfold wX_select_55
    exact sk_from (hP a ha) ha hi (sk_sel66a (hP a ha) ha hi z h (fun m' b4 b5 b6 hb => hw (m', b4, b5, b6) hb))
  · unfold wX_select_55
    exact sk_from (hP a ha) ha hi (sk_sel66b (hP a ha) ha hi z h (fun m' b4 b5 b6 hb => hw (m', b4, b5, b6) hb))
/-- find, by halving -/
theorem sk_hlt {x y : Int32} {A B : Prop} (a b : Nat) (f : a ≤ b → A) (g : b < a → B) (hx : x = nI a - 1) (hy : y = nI b) (ha : a < 2 ^ 30) (hb : b < 2 ^ 30) : (x < y → A) ∧ (¬ x < y → B) := by
  subst hx hy
  have e : nI a - 1 < nI b ↔ a ≤ b := by
    rw [Int32.lt_iff_toInt_lt, show (1 : Int32) = nI 1 from rfl, pk_sub_toInt ha (by omega), nI_toInt (by omega)]
    omega
  rw [e]
  exact ⟨f, fun z => g (by omega)⟩
theorem sk_mid {A B C : Nat} (hA : A < 2 ^ 20) (hB : B < 2 ^ 20) (h0 : 0 < B) (hC : C = (A + B - 1) / 2) : (nI A + (nI B - 1)) >>> ((1 : Int32) &&& 31) = nI C := by
  obtain ⟨B', rfl⟩ : ∃ B', B = B' + 1 := ⟨B - 1, by omega⟩
  rw [nI_pred, nI_add, pk_shrN (by omega) _ 1 (by decide), Nat.pow_one]
  exact congrArg nI (by omega)
theorem sk_find21 {post : Int32 → Prop} {m : Int32} {a1 a2 a3 a4 a5 a6 a7 f : Nat → Int32} {s i j : Nat} (hR : sk_R f s a1 a2 a3) (hs : s < 5) (hi : i < 6) (hj : j < 6)
    (H1 : ¬ f (6 * i + j) = 0 → post (nI (s * 36 + sk_c f (6 * i + j)))) (H0 : f (6 * i + j) = 0 → post (-1)) :
    ∀ d r lo hh : Nat, r + d = 4 → sk_c f (6 * i) ≤ lo → hh ≤ sk_c f (6 * (i + 1)) → ((r = 0 ∧ hh ≤ lo + 6) ∨ (r = 1 ∧ hh ≤ lo + 3) ∨ (r = 2 ∧ hh ≤ lo + 1) ∨ (3 ≤ r ∧ hh ≤ lo)) → (¬ f (6 * i + j) = 0 → lo ≤ sk_c f (6 * i + j) ∧ sk_c f (6 * i + j) < hh) → lo ≤ 36 →
      wX_find_21 post (nI j) m a1 a2 a3 a4 a5 a6 a7 (d + 1) (nI (s * 36 + lo)) (nI (s * 36 + hh) - 1) (nI r) := by
  have le := sk_cle f (6 * (i + 1))
  intro d
  induction d with
  | zero =>
    intro r lo hh h1 h2 h3 h4 h5 h6
    refine pk_le 4 r (fun _ => H0 ?_) (fun z => absurd z (by omega))
    by_cases e : f (6 * i + j) = 0
    · exact e
    · have q := h5 e
      omega
  | succ d ih =>
    intro r lo hh h1 h2 h3 h4 h5 h6
    refine pk_le 4 r (fun z => absurd z (by omega)) (fun _ => sk_hlt (s * 36 + hh) (s * 36 + lo) (fun z => H0 ?_) (fun z => ?_) rfl rfl (by omega) (by omega))
    · by_cases e : f (6 * i + j) = 0
      · exact e
      · have q := h5 e
        omega
    · obtain ⟨x, x1, x2, x3, x4⟩ := sk_atr f (b := 6 * i) (e := 6 * (i + 1)) (k := (lo + hh - 1) / 2) (by omega) (by omega)
      refine nm_r (e' := nI (s * 36 + sk_c f x)) (sk_mid (by omega) (by omega) (by omega) (by omega)) ⟨sk_in hs (by omega), ?_⟩
      rw [sk_a2 hR hs (by omega) x3]
      refine pk_eq (x % 6) j (fun z => ?_) (fun z => ⟨sk_in hs (by omega), pk_le j (x % 6) (fun z2 => ?_) (fun z2 => ?_)⟩)
      · have e : x = 6 * i + j := by omega
        rw [e]
        rw [e] at x3
        exact H1 x3
      · refine nm_e (nm_r (nI_1 r) (ih (r + 1) lo (sk_c f x) (by omega) h2 (by omega) (by omega) (fun hn => ⟨(h5 hn).1, sk_lt (by omega) hn⟩) h6))
      · refine nm_r (nI_1 _) (nm_r (nI_1 r) (ih (r + 1) (sk_c f x + 1) hh (by omega) (by omega) h3 (by omega) (fun hn => ⟨sk_lt (by omega) x3, (h5 hn).2⟩) (by omega)))
theorem sk_find {post : Int32 → Prop} {m : Int32} {a1 a2 a3 a4 a5 a6 a7 f : Nat → Int32} {s i j : Nat} (hR : sk_R f s a1 a2 a3) (hs : s < 5) (hi : i < 6) (hj : j < 6)
    (H1 : ¬ f (6 * i + j) = 0 → post (nI (s * 36 + sk_c f (6 * i + j)))) (H0 : f (6 * i + j) = 0 → post (-1)) : wpX_find post (m, a1, a2, a3, a4, a5, a6, a7) (nI s) (nI i) (nI j) := by
  rw [wpX_find]
  have ld := sk_diff f (show 6 * i ≤ 6 * (i + 1) by omega)
  have lc := sk_cle f (6 * i)
  refine sk_from hR hs hi (sk_upTo hR hs hi (nm_e ⟨5, sk_find21 hR hs hi hj H1 H0 4 0 _ _ rfl (Nat.le_refl _) (Nat.le_refl _) (Or.inl ⟨rfl, by omega⟩) (fun hn => ⟨sk_mono f (by omega), sk_lt (by omega) hn⟩) (by omega)⟩))
/-- transpose -/
def sk_tr (f : Nat → Int32) : Nat → Int32 := fun c => f (6 * (c % 6) + c / 6)
theorem sk_trAt (f : Nat → Int32) {i j : Nat} (hi : i < 6) : sk_tr f (6 * j + i) = f (6 * i + j) := by
  unfold sk_tr
  rw [show (6 * j + i) % 6 = i by omega, show (6 * j + i) / 6 = j by omega]
theorem sk_tra31 {post : Int32 → St1 → Prop} {J : Sk_J} {x1 m : Int32} {a1 a2 a3 a4 a5 a6 a7 f : Nat → Int32} {a j : Nat} (hR : sk_R f a a1 a2 a3) (ha : a < 5) (hj : j < 6) (hB : sk_B (sk_tr f) (6 * j) j m a4 a5 a6)
    (H : ∀ m' b4 b5 b6, sk_B (sk_tr f) (6 * (j + 1)) (j + 1) m' b4 b5 b6 → J (nI (j + 1)) m' a1 a2 a3 b4 b5 b6 a7) : ∃ n, wX_transpose_31 post J x1 (nI a) (nI j) n 0 m a1 a2 a3 a4 a5 a6 a7 := by
  refine pk_loop (σ := Int32 × (Nat → Int32) × (Nat → Int32)) (fun n i s => wX_transpose_31 post J x1 (nI a) (nI j) n (nI i) s.1 a1 a2 a3 a4 s.2.1 s.2.2 a7) (fun i s => sk_B (sk_tr f) (6 * j + i) j s.1 a4 s.2.1 s.2.2) 6 0 (m, a5, a6) (by omega) hB ?_ ?_
  · intro n s h
    rw [show 6 * j + 6 = 6 * (j + 1) by omega] at h
    exact pk_le 6 6 (fun _ => sk_end h hj (fun b4 hb => nm_r (nI_1 j) (H _ _ _ _ hb))) (fun z => absurd z (by omega))
  · intro n i s hi h hw
    refine pk_le 6 i (fun z => absurd z (by omega)) (fun _ => sk_find hR ha hi hj (fun hn => br_f (nI_pos ?_) ⟨sk_in ha (by omega), sk_emit h (by omega) ?_ ?_ (fun m' b5 b6 hb => nm_r (nI_1 i) (hw (m', b5, b6) hb))⟩) (fun hz => br_t (by decide) (nm_r (nI_1 i) (hw s (sk_skip h (by omega) (fun y q1 q2 => ?_))))))
    · have l := sk_cle f (6 * i + j)
      omega
    · rw [show (6 * j + i) % 6 = i by omega]
    · rw [sk_a3 hR ha (by omega) hn, sk_trAt f hi]
    · have e : y = 6 * j + i := by omega
      rw [e, sk_trAt f hi]
      exact hz
theorem sk_transpose {post : Int32 → St1 → Prop} {M : Nat → Nat → Int32} {u : St1} {t a : Nat} (hQ : sk_Q M u) (ht : t < 5) (ha : a < 5) (H : ∀ r v, sk_Q (sk_up M t (sk_tr (M a))) v → post r v) : wpX_transpose post u (nI t) (nI a) := by
  obtain ⟨m, a1, a2, a3, a4, a5, a6, a7⟩ := u
  have hP : sk_P M a1 a2 a3 := hQ
  rw [wpX_transpose]
  refine sk_slot ht (br_f (by decide) (sk_slot ha (br_f (by decide) (sk_begin (sk_tr (M a)) (fun b4 hb => ?_)))))
  exact pk_loop (fun n i s => wX_transpose_22 post (nI t) (nI a) n (nI i) s.1 a1 a2 a3 s.2.1 s.2.2.1 s.2.2.2 a7) (fun i s => sk_B (sk_tr (M a)) (6 * i) i s.1 s.2.1 s.2.2.1 s.2.2.2) 6 0 (0, b4, a5, a6) (by omega) hb
    (fun n s h => pk_le 6 6 (fun _ => sk_store hP h ht (fun r v hv => H r v hv)) (fun z => absurd z (by omega)))
    (fun n i s hi h hw => pk_le 6 i (fun z => absurd z (by omega)) (fun _ => sk_tra31 (hP a ha) ha hi h (fun m' b4 b5 b6 hb => hw (m', b4, b5, b6) hb)))
end
section
theorem sk_clear {post : St1 → Prop} {m : Int32} {a1 a2 a3 a4 a5 a6 a7 : Nat → Int32} (H : ∀ b7, (∀ j, j < 6 → b7 j = 0) → post (m, a1, a2, a3, a4, a5, a6, b7)) : wpX_clearWork post (m, a1, a2, a3, a4, a5, a6, a7) := by
  refine pk_loop (fun n i s => wX_clearWork_2 post m n (nI i) a1 a2 a3 a4 a5 a6 s) (fun i s => ∀ j, j < i → s j = 0) 6 0 a7 (by omega) (fun j hj => absurd hj (by omega))
    (fun n s h => pk_le 6 6 (fun _ => H s h) (fun z => absurd z (by omega))) ?_
  intro n i s hi h hw
  refine pk_le 6 i (fun z => absurd z (by omega)) (fun _ => ⟨pk_in i 6 hi, nm_r (e' := upd s i 0) (by rw [nI_clamp (by omega)]) (nm_r (nI_1 i) (hw _ (fun j hj => ?_)))⟩)
  by_cases e : j = i
  · rw [e, pk_us]
  · rw [pk_un e]
    exact h j (by omega)
theorem sk_emitW {post : St1 → Prop} {m : Int32} {a1 a2 a3 a4 a5 a6 a7 g : Nat → Int32} {i : Nat} (hi : i < 6) (hB : sk_B g (6 * i) i m a4 a5 a6) (h7 : ∀ j, j < 6 → a7 j = g (6 * i + j))
    (H : ∀ m' b5 b6, sk_B g (6 * (i + 1)) i m' a4 b5 b6 → post (m', a1, a2, a3, a4, b5, b6, a7)) : wpX_emitWork post (m, a1, a2, a3, a4, a5, a6, a7) := by
  refine pk_loop (σ := Int32 × (Nat → Int32) × (Nat → Int32)) (fun n j s => wX_emitWork_2 post n (nI j) s.1 a1 a2 a3 a4 s.2.1 s.2.2 a7) (fun j s => sk_B g (6 * i + j) i s.1 a4 s.2.1 s.2.2) 6 0 (m, a5, a6) (by omega) hB ?_ ?_
  · intro n s h
    rw [show 6 * i + 6 = 6 * (i + 1) by omega] at h
    exact pk_le 6 6 (fun _ => H _ _ _ h) (fun z => absurd z (by omega))
  · intro n j s hj h hw
    refine pk_le 6 j (fun z => absurd z (by omega)) (fun _ => ⟨pk_in j 6 hj, sk_emit h (by omega) ?_ ?_ (fun m' b5 b6 hb => nm_r (nI_1 j) (hw (m', b5, b6) hb))⟩)
    · rw [show (6 * i + j) % 6 = j by omega]
    · rw [nI_clamp (by omega), h7 j hj]
/-- put -/
def sk_pt (f : Nat → Int32) (k : Nat) (v : Int32) : Nat → Int32 := fun c => if c = k then v else f c
theorem sk_put101 {post : Int32 → St1 → Prop} {J : Sk_J} {x1 x2 x3 x4 m : Int32} {a1 a2 a3 a4 a5 a6 a7 g : Nat → Int32} {i : Nat} (hi : i < 6) (hB : sk_B g (6 * i) i m a4 a5 a6) (h7 : ∀ j, j < 6 → a7 j = g (6 * i + j))
    (H : ∀ m' b4 b5 b6, sk_B g (6 * (i + 1)) (i + 1) m' b4 b5 b6 → J (nI (i + 1)) m' a1 a2 a3 b4 b5 b6 a7) : wX_put_101 post J x1 x2 x3 x4 (nI i) m a1 a2 a3 a4 a5 a6 a7 := by
  unfold wX_put_101
  exact sk_emitW hi hB h7 (fun m' b5 b6 hb => sk_end hb hi (fun b4 hc => nm_r (nI_1 i) (H _ _ _ _ hc)))
theorem sk_put50 {post : Int32 → St1 → Prop} {J : Sk_J} {v m : Int32} {a1 a2 a3 a4 a5 a6 a7 f : Nat → Int32} {s r i j : Nat} (hR : sk_R f s a1 a2 a3) (hs : s < 5) (hr : r < 6) (hi : i < 6) (hj : j < 6) (hB : sk_B (sk_pt f (6 * i + j) v) (6 * r) r m a4 a5 a6) (h7 : ∀ j, j < 6 → a7 j = 0)
    (H : ∀ m' b4 b5 b6 b7, sk_B (sk_pt f (6 * i + j) v) (6 * (r + 1)) (r + 1) m' b4 b5 b6 → J (nI (r + 1)) m' a1 a2 a3 b4 b5 b6 b7) : ∃ n, wX_put_50 post J (nI s) (nI i) (nI j) v (nI r) m n (nI (s * 36 + sk_c f (6 * r))) a1 a2 a3 a4 a5 a6 a7 := by
  have le := sk_cle f (6 * (r + 1))
  refine sk_row (fun n k s7 => wX_put_50 post J (nI s) (nI i) (nI j) v (nI r) m n k a1 a2 a3 a4 a5 a6 s7) (fun c s7 => 6 * r ≤ c ∧ ∀ q, q < 6 → s7 q = if 6 * r + q < c then f (6 * r + q) else 0) f (s * 36) (6 * (r + 1)) ?_ ?_ ?_ (6 * r) a7 (by omega) ⟨Nat.le_refl _, fun q hq => by rw [h7 q hq, if_neg (by omega)]⟩
  · intro c x s7 h1 h2 h3 h
    refine ⟨by omega, fun q hq => ?_⟩
    rw [h.2 q hq]
    by_cases e1 : 6 * r + q < c
    · rw [if_pos e1, if_pos (by omega)]
    · rw [if_neg e1]
      by_cases e2 : 6 * r + q < x
      · rw [if_pos e2, h3 _ (by omega) e2]
      · rw [if_neg e2]
  · intro n s7 h
    rw [wX_put_50]
    have h' : ∀ q, q < 6 → s7 q = f (6 * r + q) := fun q hq => by rw [h.2 q hq, if_pos (by omega)]
    refine sk_upTo hR hs hr (pk_le (s * 36 + sk_c f (6 * (r + 1))) (s * 36 + sk_c f (6 * (r + 1))) (fun _ => pk_eq r i (fun z => ⟨pk_in j 6 hj, nm_r (e' := upd s7 j v) (by rw [nI_clamp (by omega)]) (sk_put101 hr hB (fun q hq => ?_) (fun m' b4 b5 b6 hb => H _ _ _ _ _ hb))⟩) (fun z => sk_put101 hr hB (fun q hq => ?_) (fun m' b4 b5 b6 hb => H _ _ _ _ _ hb))) (fun z => absurd z (by omega)))
    · unfold sk_pt
      by_cases e : q = j
      · rw [e, pk_us, if_pos (by omega)]
      · rw [pk_un e, if_neg (by omega)]
        exact h' q hq
    · unfold sk_pt
      rw [if_neg (by omega)]
      exact h' q hq
  · intro n c s7 h1 h2 h hw
    have lc := sk_cle f c
    have lt := sk_lt h1 h2
    have l6 := h.1
    rw [wX_put_50]
    refine sk_upTo hR hs hr (pk_le (s * 36 + sk_c f (6 * (r + 1))) (s * 36 + sk_c f c) (fun z => absurd z (by omega)) (fun _ => ⟨sk_in hs (by omega), sk_in hs (by omega), ?_⟩))
    rw [sk_a2 hR hs (by omega) h2, sk_a3 hR hs (by omega) h2]
    refine ⟨pk_in (c % 6) 6 (by omega), nm_r (e' := upd s7 (c % 6) (f c)) (by rw [nI_clamp (by omega)]) (nm_r (nI_1 _) (hw _ ⟨by omega, fun q hq => ?_⟩))⟩
    by_cases e : q = c % 6
    · rw [e, pk_us, if_pos (by omega), show 6 * r + c % 6 = c by omega]
    · rw [pk_un e, h.2 q hq]
      by_cases e1 : 6 * r + q < c
      · rw [if_pos e1, if_pos (by omega)]
      · rw [if_neg e1, if_neg (by omega)]
theorem sk_put {post : Int32 → St1 → Prop} {M : Nat → Nat → Int32} {u : St1} {s i j : Nat} {v : Int32} (hQ : sk_Q M u) (hs : s < 5) (hi : i < 6) (hj : j < 6) (H : ∀ r w, sk_Q (sk_up M s (sk_pt (M s) (6 * i + j) v)) w → post r w) : wpX_put post u (nI s) (nI i) (nI j) v := by
  obtain ⟨m, a1, a2, a3, a4, a5, a6, a7⟩ := u
  have hP : sk_P M a1 a2 a3 := hQ
  rw [wpX_put]
  refine sk_slot hs (br_f (by decide) (sk_index hi (br_f (by decide) (sk_index hj (br_f (by decide) (sk_begin (sk_pt (M s) (6 * i + j) v) (fun b4 hb => ?_)))))))
  exact pk_loop (fun n r q => wX_put_30 post (nI s) (nI i) (nI j) v n (nI r) q.1 a1 a2 a3 q.2.1 q.2.2.1 q.2.2.2.1 q.2.2.2.2) (fun r q => sk_B (sk_pt (M s) (6 * i + j) v) (6 * r) r q.1 q.2.1 q.2.2.1 q.2.2.2.1) 6 0 (0, b4, a5, a6, a7) (by omega) hb
    (fun n q h => pk_le 6 6 (fun _ => sk_store hP h hs (fun r w hw => H 1 w hw)) (fun z => absurd z (by omega)))
    (fun n r q hr h hw => pk_le 6 r (fun z => absurd z (by omega)) (fun _ => sk_clear (fun b7 h7 => sk_from (hP s hs) hs hr (sk_put50 (hP s hs) hs hr hi hj h h7 (fun m' b4 b5 b6 b7 hb => hw (m', b4, b5, b6, b7) hb)))))
/-- products -/
def sk_pr (f h : Nat → Int32) : Nat → Int32 := fun c => sk_s (fun k => f (6 * (c / 6) + k) * h (6 * k + c % 6)) 6
theorem sk_prAt (f h : Nat → Int32) {i j : Nat} (hj : j < 6) : sk_pr f h (6 * i + j) = sk_s (fun k => f (6 * i + k) * h (6 * k + j)) 6 := by
  unfold sk_pr
  rw [show (6 * i + j) / 6 = i by omega, show (6 * i + j) % 6 = j by omega]
theorem sk_pr41 {post : St1 → Prop} {J : Int32 → (Nat → Int32) → (Nat → Int32) → (Nat → Int32) → (Nat → Int32) → (Nat → Int32) → (Nat → Int32) → (Nat → Int32) → Prop} {x1 x3 m : Int32} {a1 a2 a3 a4 a5 a6 a7 f h : Nat → Int32} {a b c k : Nat} (hA : sk_R f a a1 a2 a3) (hB : sk_R h b a1 a2 a3) (ha : a < 5) (hb : b < 5) (hc : c < 36) (hf : ¬ f c = 0) (hk : k < 6)
    (H : ∀ b7, (∀ j, j < 6 → b7 j = a7 j + f c * h (6 * k + j)) → J (nI (a * 36 + sk_c f c + 1)) a1 a2 a3 a4 a5 a6 b7) : ∃ n, wX_productRow_41 post J x1 (nI b) x3 (nI (a * 36 + sk_c f c)) (nI k) m n (nI (b * 36 + sk_c h (6 * k))) a1 a2 a3 a4 a5 a6 a7 := by
  have le := sk_cle h (6 * (k + 1))
  refine sk_row (fun n l s7 => wX_productRow_41 post J x1 (nI b) x3 (nI (a * 36 + sk_c f c)) (nI k) m n l a1 a2 a3 a4 a5 a6 s7) (fun d s7 => 6 * k ≤ d ∧ ∀ q, q < 6 → s7 q = a7 q + if 6 * k + q < d then f c * h (6 * k + q) else 0) h (b * 36) (6 * (k + 1)) ?_ ?_ ?_ (6 * k) a7 (by omega) ⟨Nat.le_refl _, fun q hq => by rw [if_neg (by omega), Int32.add_zero]⟩
  · intro d x s7 h1 h2 h3 g
    refine ⟨by omega, fun q hq => ?_⟩
    rw [g.2 q hq]
    by_cases e1 : 6 * k + q < d
    · rw [if_pos e1, if_pos (by omega)]
    · rw [if_neg e1]
      by_cases e2 : 6 * k + q < x
      · rw [if_pos e2, h3 _ (by omega) e2, Int32.mul_zero]
      · rw [if_neg e2]
  · intro n s7 g
    rw [wX_productRow_41]
    exact sk_upTo hB hb hk (pk_le (b * 36 + sk_c h (6 * (k + 1))) (b * 36 + sk_c h (6 * (k + 1))) (fun _ => nm_r (nI_1 _) (H s7 (fun q hq => by rw [g.2 q hq, if_pos (by omega)]))) (fun z => absurd z (by omega)))
  · intro n d s7 h1 h2 g hw
    have lc := sk_cle h d
    have lt := sk_lt h1 h2
    have l6 := g.1
    rw [wX_productRow_41]
    refine sk_upTo hB hb hk (pk_le (b * 36 + sk_c h (6 * (k + 1))) (b * 36 + sk_c h d) (fun z => absurd z (by omega)) (fun _ => ⟨sk_in hb (by omega), ?_⟩))
    rw [sk_a2 hB hb (by omega) h2, sk_a3 hB hb (by omega) h2, sk_a3 hA ha hc hf]
    refine ⟨pk_in (d % 6) 6 (by omega), sk_in ha hc, sk_in hb (by omega), pk_in (d % 6) 6 (by omega), nm_r (e' := upd s7 (d % 6) (s7 (d % 6) + f c * h d)) (by rw [nI_clamp (by omega)]) (nm_r (nI_1 _) (hw _ ⟨by omega, fun q hq => ?_⟩))⟩
    by_cases e : q = d % 6
    · rw [e, pk_us, g.2 (d % 6) (by omega), if_neg (by omega), if_pos (by omega), show 6 * k + d % 6 = d by omega, Int32.add_zero]
    · rw [pk_un e, g.2 q hq]
      by_cases e1 : 6 * k + q < d
      · rw [if_pos e1, if_pos (by omega)]
      · rw [if_neg e1, if_neg (by omega)]
theorem sk_pRow {post : St1 → Prop} {m : Int32} {a1 a2 a3 a4 a5 a6 a7 f h : Nat → Int32} {a b i : Nat} (hA : sk_R f a a1 a2 a3) (hB : sk_R h b a1 a2 a3) (ha : a < 5) (hb : b < 5) (hi : i < 6)
    (H : ∀ b7, (∀ j, j < 6 → b7 j = sk_pr f h (6 * i + j)) → post (m, a1, a2, a3, a4, a5, a6, b7)) : wpX_productRow post (m, a1, a2, a3, a4, a5, a6, a7) (nI a) (nI b) (nI i) := by
  have le := sk_cle f (6 * (i + 1))
  rw [wpX_productRow]
  refine sk_clear (fun b7 h7 => sk_from hA ha hi ?_)
  refine sk_row (fun n k s7 => wX_productRow_12 post (nI a) (nI b) (nI i) m n k a1 a2 a3 a4 a5 a6 s7) (fun c s7 => 6 * i ≤ c ∧ ∀ q, q < 6 → s7 q = sk_s (fun k => f (6 * i + k) * h (6 * k + q)) (c - 6 * i)) f (a * 36) (6 * (i + 1)) ?_ ?_ ?_ (6 * i) b7 (by omega) ⟨Nat.le_refl _, fun q hq => by rw [h7 q hq, Nat.sub_self]; rfl⟩
  · intro c x s7 h1 h2 h3 g
    have l6 := g.1
    refine ⟨by omega, fun q hq => ?_⟩
    rw [g.2 q hq, sk_sz (show c - 6 * i ≤ x - 6 * i by omega) (fun y q1 q2 => by rw [h3 _ (by omega) (by omega), Int32.zero_mul])]
  · intro n s7 g
    rw [wX_productRow_12]
    refine sk_upTo hA ha hi (pk_le (a * 36 + sk_c f (6 * (i + 1))) (a * 36 + sk_c f (6 * (i + 1))) (fun _ => H s7 (fun q hq => ?_)) (fun z => absurd z (by omega)))
    rw [g.2 q hq, sk_prAt f h hq, show 6 * (i + 1) - 6 * i = 6 by omega]
  · intro n c s7 h1 h2 g hw
    have lc := sk_cle f c
    have lt := sk_lt h1 h2
    have l6 := g.1
    rw [wX_productRow_12]
    refine sk_upTo hA ha hi (pk_le (a * 36 + sk_c f (6 * (i + 1))) (a * 36 + sk_c f c) (fun z => absurd z (by omega)) (fun _ => ⟨sk_in ha (by omega), nm_r (sk_a2 hA ha (by omega) h2) (sk_from hB hb (by omega) (sk_pr41 hA hB ha hb (by omega) h2 (by omega) (fun b7 h7 => hw b7 ⟨by omega, fun q hq => ?_⟩)))⟩))
    rw [h7 q hq, g.2 q hq, show c + 1 - 6 * i = (c - 6 * i) + 1 by omega, sk_s1, show 6 * i + (c - 6 * i) = c by omega, show c % 6 = c - 6 * i by omega]
theorem sk_product {post : Int32 → St1 → Prop} {M : Nat → Nat → Int32} {u : St1} {t a b : Nat} (hQ : sk_Q M u) (ht : t < 5) (ha : a < 5) (hb : b < 5) (H : ∀ r v, sk_Q (sk_up M t (sk_pr (M a) (M b))) v → post r v) : wpX_product post u (nI t) (nI a) (nI b) := by
  obtain ⟨m, a1, a2, a3, a4, a5, a6, a7⟩ := u
  have hP : sk_P M a1 a2 a3 := hQ
  rw [wpX_product]
  refine sk_slot ht (br_f (by decide) (sk_slot ha (br_f (by decide) (sk_slot hb (br_f (by decide) (sk_begin (sk_pr (M a) (M b)) (fun b4 hb4 => ?_)))))))
  exact pk_loop (fun n r q => wX_product_30 post (nI t) (nI a) (nI b) n (nI r) q.1 a1 a2 a3 q.2.1 q.2.2.1 q.2.2.2.1 q.2.2.2.2) (fun r q => sk_B (sk_pr (M a) (M b)) (6 * r) r q.1 q.2.1 q.2.2.1 q.2.2.2.1) 6 0 (0, b4, a5, a6, a7) (by omega) hb4
    (fun n q h => pk_le 6 6 (fun _ => sk_store hP h ht (fun r w hw => H r w hw)) (fun z => absurd z (by omega)))
    (fun n r q hr h hw => pk_le 6 r (fun z => absurd z (by omega)) (fun _ => sk_pRow (hP a ha) (hP b hb) ha hb hr (fun b7 h7 => sk_emitW hr h h7 (fun m' b5 b6 hx => sk_end hx hr (fun b4 hy => nm_r (nI_1 r) (hw (m', b4, b5, b6, b7) hy))))))
/-- masked -/
def sk_ma (k g : Nat → Int32) : Nat → Int32 := fun c => if k c = 0 then 0 else g c
theorem sk_masked84 {post : Int32 → St1 → Prop} {J : Sk_J} {x1 x3 x4 m : Int32} {a1 a2 a3 a4 a5 a6 a7 f g : Nat → Int32} {a i : Nat} (hR : sk_R f a a1 a2 a3) (ha : a < 5) (hi : i < 6) (h7 : ∀ j, j < 6 → a7 j = g (6 * i + j)) (hB : sk_B (sk_ma f g) (6 * i) i m a4 a5 a6)
    (H : ∀ m' b4 b5 b6, sk_B (sk_ma f g) (6 * (i + 1)) (i + 1) m' b4 b5 b6 → J (nI (i + 1)) m' a1 a2 a3 b4 b5 b6 a7) : ∃ n, wX_masked_84 post J x1 x3 x4 (nI a) (nI i) n (nI (a * 36 + sk_c f (6 * i))) m a1 a2 a3 a4 a5 a6 a7 := by
  have le := sk_cle f (6 * (i + 1))
  refine sk_row (σ := Int32 × (Nat → Int32) × (Nat → Int32)) (fun n k s => wX_masked_84 post J x1 x3 x4 (nI a) (nI i) n k s.1 a1 a2 a3 a4 s.2.1 s.2.2 a7) (fun c s => 6 * i ≤ c ∧ sk_B (sk_ma f g) c i s.1 a4 s.2.1 s.2.2) f (a * 36) (6 * (i + 1)) ?_ ?_ ?_ (6 * i) (m, a5, a6) (by omega) ⟨Nat.le_refl _, hB⟩
  · intro c x s h1 h2 h3 h
    exact ⟨Nat.le_trans h.1 h1, sk_skip h.2 h1 (fun y q1 q2 => if_pos (h3 y q1 q2))⟩
  · intro n s h
    rw [wX_masked_84]
    refine sk_upTo hR ha hi (pk_le (a * 36 + sk_c f (6 * (i + 1))) (a * 36 + sk_c f (6 * (i + 1))) (fun _ => sk_end h.2 hi (fun b4 hb => nm_r (nI_1 i) (H _ _ _ _ hb))) (fun z => absurd z (by omega)))
  · intro n c s h1 h2 h hw
    have lc := sk_cle f c
    have lt := sk_lt h1 h2
    have l6 := h.1
    rw [wX_masked_84]
    refine sk_upTo hR ha hi (pk_le (a * 36 + sk_c f (6 * (i + 1))) (a * 36 + sk_c f c) (fun z => absurd z (by omega)) (fun _ => ⟨sk_in ha (by omega), nm_r (sk_a2 hR ha (by omega) h2) ⟨pk_in (c % 6) 6 (by omega), sk_emit h.2 (by omega) rfl ?_ (fun m' b5 b6 hb => nm_r (nI_1 _) (hw (m', b5, b6) ⟨by omega, hb⟩))⟩⟩))
    rw [nI_clamp (by omega), h7 _ (by omega), show 6 * i + c % 6 = c by omega]
    exact (if_neg h2).symm
theorem sk_masked {post : Int32 → St1 → Prop} {M : Nat → Nat → Int32} {u : St1} {t a b k : Nat} (hQ : sk_Q M u) (ht : t < 5) (ha : a < 5) (hb : b < 5) (hk : k < 5) (H : ∀ r v, sk_Q (sk_up M t (sk_ma (M k) (sk_pr (M a) (M b)))) v → post r v) : wpX_masked post u (nI t) (nI (a + 8 * b + 64 * k)) := by
  obtain ⟨m, a1, a2, a3, a4, a5, a6, a7⟩ := u
  have hP : sk_P M a1 a2 a3 := hQ
  rw [wpX_masked]
  refine nm_r (e' := nI a) ?_ (nm_r (e' := nI b) ?_ (nm_r (e' := nI k) ?_ ?_))
  · rw [pk_andN (by omega) 3 (by decide)]
    exact congrArg nI (by omega)
  · rw [pk_shrN (by omega) _ 3 (by decide), pk_andN (by omega) 3 (by decide)]
    exact congrArg nI (by omega)
  · rw [pk_shrN (by omega) _ 6 (by decide)]
    exact congrArg nI (by omega)
  refine sk_slot ht (br_f (by decide) (sk_slot ha (br_f (by decide) (sk_slot hb (br_f (by decide) (sk_slot hk (br_f (by decide) (sk_begin (sk_ma (M k) (sk_pr (M a) (M b))) (fun b4 hb4 => ?_)))))))))
  exact pk_loop (fun n r q => wX_masked_58 post (nI t) (nI a) (nI b) (nI k) n (nI r) q.1 a1 a2 a3 q.2.1 q.2.2.1 q.2.2.2.1 q.2.2.2.2) (fun r q => sk_B (sk_ma (M k) (sk_pr (M a) (M b))) (6 * r) r q.1 q.2.1 q.2.2.1 q.2.2.2.1) 6 0 (0, b4, a5, a6, a7) (by omega) hb4
    (fun n q h => pk_le 6 6 (fun _ => sk_store hP h ht (fun r w hw => H r w hw)) (fun z => absurd z (by omega)))
    (fun n r q hr h hw => pk_le 6 r (fun z => absurd z (by omega)) (fun _ => sk_pRow (hP a ha) (hP b hb) ha hb hr (fun b7 h7 => sk_from (hP k hk) hk hr (sk_masked84 (hP k hk) hk hr h7 h (fun m' b4 b5 b6 hy => hw (m', b4, b5, b6, b7) hy)))))
end
section
/-- add: two rows at once. c: where both stand; X, Y: their next entries (or the end) -/
theorem sk_merge46 {post : St1 → Prop} {J : Int32 → Int32 → Int32 → (Nat → Int32) → (Nat → Int32) → (Nat → Int32) → (Nat → Int32) → (Nat → Int32) → (Nat → Int32) → (Nat → Int32) → Prop} {m : Int32} {a1 a2 a3 a4 a5 a6 a7 f h g : Nat → Int32} {a b i c X Y : Nat} (hA : sk_R f a a1 a2 a3) (hB : sk_R h b a1 a2 a3) (ha : a < 5) (hb : b < 5) (hi : i < 6) (hg : ∀ c, g c = f c + h c) (h6 : 6 * i ≤ c) (hX : sk_X f c (6 * (i + 1)) X) (hY : sk_X h c (6 * (i + 1)) Y) (hE : X < 6 * (i + 1) ∨ Y < 6 * (i + 1)) (hS : sk_B g c i m a4 a5 a6)
    (HJ : ∀ L m' b5 b6, c ≤ L → L < 6 * (i + 1) → sk_B g (L + 1) i m' a4 b5 b6 → J (nI (a * 36 + sk_c f (L + 1))) (nI (b * 36 + sk_c h (L + 1))) m' a1 a2 a3 a4 b5 b6 a7) :
    wX_mergeRow_46 post J (nI (a * 36 + sk_c f c)) (nI (b * 36 + sk_c h c)) (nI (a * 36 + sk_c f (6 * (i + 1)))) (nI (b * 36 + sk_c h (6 * (i + 1)))) m a1 a2 a3 a4 a5 a6 a7 := by
  have lf := sk_cle f (6 * (i + 1))
  have lh := sk_cle h (6 * (i + 1))
  have lfc := sk_cle f c
  have lhc := sk_cle h c
  have cX := sk_Xc hX
  have cY := sk_Xc hY
  have iX := sk_Xlt hX
  have iY := sk_Xlt hY
  obtain ⟨x1, x2, x3, x4⟩ := hX
  obtain ⟨y1, y2, y3, y4⟩ := hY
  obtain ⟨L, l1, l2, l3, l4⟩ : ∃ L, L ≤ X ∧ L ≤ Y ∧ (L = X ∨ L = Y) ∧ L < 6 * (i + 1) := by
    rcases Nat.le_total X Y with q | q
    · exact ⟨X, by omega, q, Or.inl rfl, by omega⟩
    · exact ⟨Y, q, by omega, Or.inr rfl, by omega⟩
  have hcL : c ≤ L := by omega
  have hS' : sk_B g L i m a4 a5 a6 := sk_skip hS hcL (fun y q1 q2 => by rw [hg, x3 y q1 (by omega), y3 y q1 (by omega), Int32.add_zero])
  have fL : sk_c f L = sk_c f c := sk_flat hcL (fun y q1 q2 => x3 y q1 (by omega))
  have hL : sk_c h L = sk_c h c := sk_flat hcL (fun y q1 q2 => y3 y q1 (by omega))
  have e151 : wX_mergeRow_151 post J (nI (a * 36 + sk_c f (L + 1))) (nI (b * 36 + sk_c h (L + 1))) (nI (a * 36 + sk_c f (6 * (i + 1)))) (nI (b * 36 + sk_c h (6 * (i + 1)))) (nI (L - 6 * i)) (f L + h L) m a1 a2 a3 a4 a5 a6 a7 := by
    unfold wX_mergeRow_151
    exact sk_emit hS' (by omega) (congrArg nI (by omega)) (hg L).symm (fun m' b5 b6 hq => HJ L m' b5 b6 hcL l4 hq)
  have e129 : wX_mergeRow_129 post J (nI (a * 36 + sk_c f (L + 1))) (nI (b * 36 + sk_c h c)) (nI (a * 36 + sk_c f (6 * (i + 1)))) (nI (b * 36 + sk_c h (6 * (i + 1)))) (nI (Y - 6 * i)) (nI (L - 6 * i)) (f L) m a1 a2 a3 a4 a5 a6 a7 := by
    unfold wX_mergeRow_129
    refine pk_eq (Y - 6 * i) (L - 6 * i) (fun z => ?_) (fun z => ?_)
    · have eY : Y = L := by omega
      have hn : ¬ h L = 0 := by
        rw [← eY]
        exact y4 (by omega)
      rw [← hL]
      rw [sk_cn hn] at e151
      exact ⟨sk_in hb (by omega), nm_r (e' := f L + h L) (by rw [sk_a3 hB hb (by omega) hn]) (nm_r (nI_1 _) e151)⟩
    · have hz : h L = 0 := y3 L hcL (by omega)
      rw [sk_cz hz, hL, hz, Int32.add_zero] at e151
      exact e151
  have e102 : wX_mergeRow_102 post J (nI (a * 36 + sk_c f c)) (nI (b * 36 + sk_c h c)) (nI (a * 36 + sk_c f (6 * (i + 1)))) (nI (b * 36 + sk_c h (6 * (i + 1)))) (nI (X - 6 * i)) (nI (Y - 6 * i)) (nI (L - 6 * i)) m a1 a2 a3 a4 a5 a6 a7 := by
    unfold wX_mergeRow_102
    refine pk_eq (X - 6 * i) (L - 6 * i) (fun z => ?_) (fun z => ?_)
    · have eX : X = L := by omega
      have hn : ¬ f L = 0 := by
        rw [← eX]
        exact x4 (by omega)
      rw [← fL]
      rw [sk_cn hn] at e129
      exact ⟨sk_in ha (by omega), nm_r (e' := f L) (by rw [sk_a3 hA ha (by omega) hn, Int32.zero_add]) (nm_r (nI_1 _) e129)⟩
    · have hz : f L = 0 := x3 L hcL (by omega)
      rw [sk_cz hz, fL, hz] at e129
      exact e129
  have e86 : wX_mergeRow_86 post J (nI (a * 36 + sk_c f c)) (nI (b * 36 + sk_c h c)) (nI (a * 36 + sk_c f (6 * (i + 1)))) (nI (b * 36 + sk_c h (6 * (i + 1)))) (nI (X - 6 * i)) (nI (Y - 6 * i)) m a1 a2 a3 a4 a5 a6 a7 := by
    unfold wX_mergeRow_86
    refine pk_le (Y - 6 * i) (X - 6 * i) (fun z => ?_) (fun z => ?_)
    · rw [show Y - 6 * i = L - 6 * i by omega]
      rw [show Y - 6 * i = L - 6 * i by omega] at e102
      exact e102
    · rw [show X - 6 * i = L - 6 * i by omega]
      rw [show X - 6 * i = L - 6 * i by omega] at e102
      exact e102
  have e65 : wX_mergeRow_65 post J (nI (a * 36 + sk_c f c)) (nI (b * 36 + sk_c h c)) (nI (a * 36 + sk_c f (6 * (i + 1)))) (nI (b * 36 + sk_c h (6 * (i + 1)))) (nI (X - 6 * i)) m a1 a2 a3 a4 a5 a6 a7 := by
    unfold wX_mergeRow_65
    refine pk_le (b * 36 + sk_c h (6 * (i + 1))) (b * 36 + sk_c h c) (fun z => ?_) (fun z => ?_)
    · rw [show Y - 6 * i = 6 by omega] at e86
      exact e86
    · have hn : ¬ h Y = 0 := y4 (by omega)
      rw [show Y - 6 * i = Y % 6 by omega, ← sk_a2 hB hb (by omega) hn, cY] at e86
      refine ⟨?_, e86⟩
      rw [← cY]
      exact sk_in hb (by omega)
  unfold wX_mergeRow_46
  refine pk_le (a * 36 + sk_c f (6 * (i + 1))) (a * 36 + sk_c f c) (fun z => ?_) (fun z => ?_)
  · rw [show X - 6 * i = 6 by omega] at e65
    exact e65
  · have hn : ¬ f X = 0 := x4 (by omega)
    rw [show X - 6 * i = X % 6 by omega, ← sk_a2 hA ha (by omega) hn, cX] at e65
    refine ⟨?_, e65⟩
    rw [← cX]
    exact sk_in ha (by omega)
theorem sk_merge32 {post : St1 → Prop} {a1 a2 a3 a4 a7 f h g : Nat → Int32} {a b i : Nat} (hA : sk_R f a a1 a2 a3) (hB : sk_R h b a1 a2 a3) (ha : a < 5) (hb : b < 5) (hi : i < 6) (hg : ∀ c, g c = f c + h c)
    (H : ∀ m' b5 b6, sk_B g (6 * (i + 1)) i m' a4 b5 b6 → post (m', a1, a2, a3, a4, b5, b6, a7)) :
    ∀ (d c : Nat) (m : Int32) (a5 a6 : Nat → Int32), 6 * i ≤ c → c ≤ 6 * (i + 1) → 6 * (i + 1) - c ≤ d → sk_B g c i m a4 a5 a6 → wX_mergeRow_32 post (nI (a * 36 + sk_c f (6 * (i + 1)))) (nI (b * 36 + sk_c h (6 * (i + 1)))) (d + 1) (nI (a * 36 + sk_c f c)) (nI (b * 36 + sk_c h c)) m a1 a2 a3 a4 a5 a6 a7 := by
  have lf := sk_cle f (6 * (i + 1))
  have lh := sk_cle h (6 * (i + 1))
  intro d
  induction d with
  | zero =>
    intro c m a5 a6 h1 h2 h3 hS
    have e : c = 6 * (i + 1) := by omega
    rw [e]
    rw [e] at hS
    exact pk_lt (a * 36 + sk_c f (6 * (i + 1))) (a * 36 + sk_c f (6 * (i + 1))) (fun z => absurd z (by omega)) (fun _ => pk_le (b * 36 + sk_c h (6 * (i + 1))) (b * 36 + sk_c h (6 * (i + 1))) (fun _ => H _ _ _ hS) (fun z => absurd z (by omega)))
  | succ d ih =>
    intro c m a5 a6 h1 h2 h3 hS
    have lfc := sk_cle f c
    have lhc := sk_cle h c
    obtain ⟨X, hX⟩ := sk_nxt f h2
    obtain ⟨Y, hY⟩ := sk_nxt h h2
    have iX := sk_Xlt hX
    have iY := sk_Xlt hY
    refine pk_lt (a * 36 + sk_c f c) (a * 36 + sk_c f (6 * (i + 1))) (fun z => ?_) (fun z => pk_le (b * 36 + sk_c h (6 * (i + 1))) (b * 36 + sk_c h c) (fun z2 => H _ _ _ (sk_skip hS h2 (fun y q1 q2 => ?_))) (fun z2 => ?_))
    · exact sk_merge46 hA hB ha hb hi hg h1 hX hY (by omega) hS (fun L m' b5 b6 q1 q2 q3 => ih (L + 1) m' b5 b6 (by omega) (by omega) (by omega) q3)
    · rw [hg, hX.2.2.1 y q1 (by omega), hY.2.2.1 y q1 (by omega), Int32.add_zero]
    · exact sk_merge46 hA hB ha hb hi hg h1 hX hY (by omega) hS (fun L m' b5 b6 q1 q2 q3 => ih (L + 1) m' b5 b6 (by omega) (by omega) (by omega) q3)
theorem sk_mRow {post : St1 → Prop} {m : Int32} {a1 a2 a3 a4 a5 a6 a7 f h g : Nat → Int32} {a b i : Nat} (hA : sk_R f a a1 a2 a3) (hB : sk_R h b a1 a2 a3) (ha : a < 5) (hb : b < 5) (hi : i < 6) (hg : ∀ c, g c = f c + h c) (hS : sk_B g (6 * i) i m a4 a5 a6)
    (H : ∀ m' b5 b6, sk_B g (6 * (i + 1)) i m' a4 b5 b6 → post (m', a1, a2, a3, a4, b5, b6, a7)) : wpX_mergeRow post (m, a1, a2, a3, a4, a5, a6, a7) (nI a) (nI b) (nI i) := by
  rw [wpX_mergeRow]
  exact sk_from hA ha hi (sk_from hB hb hi (sk_upTo hA ha hi (sk_upTo hB hb hi ⟨7, sk_merge32 hA hB ha hb hi hg H 6 (6 * i) m a5 a6 (by omega) (by omega) (by omega) hS⟩)))
theorem sk_add {post : Int32 → St1 → Prop} {M : Nat → Nat → Int32} {u : St1} {t a b : Nat} (hQ : sk_Q M u) (ht : t < 5) (ha : a < 5) (hb : b < 5) (H : ∀ r v, sk_Q (sk_up M t (fun c => M a c + M b c)) v → post r v) : wpX_add post u (nI t) (nI a) (nI b) := by
  obtain ⟨m, a1, a2, a3, a4, a5, a6, a7⟩ := u
  have hP : sk_P M a1 a2 a3 := hQ
  rw [wpX_add]
  refine sk_slot ht (br_f (by decide) (sk_slot ha (br_f (by decide) (sk_slot hb (br_f (by decide) (sk_begin (fun c => M a c + M b c) (fun b4 hb4 => ?_)))))))
  exact pk_loop (fun n r q => wX_add_30 post (nI t) (nI a) (nI b) n (nI r) q.1 a1 a2 a3 q.2.1 q.2.2.1 q.2.2.2 a7) (fun r q => sk_B (fun c => M a c + M b c) (6 * r) r q.1 q.2.1 q.2.2.1 q.2.2.2) 6 0 (0, b4, a5, a6) (by omega) hb4
    (fun n q h => pk_le 6 6 (fun _ => sk_store hP h ht (fun r w hw => H r w hw)) (fun z => absurd z (by omega)))
    (fun n r q hr h hw => pk_le 6 r (fun z => absurd z (by omega)) (fun _ => sk_mRow (hP a ha) (hP b hb) ha hb hr (fun _ => rfl) h (fun m' b5 b6 hx => sk_end hx hr (fun b4 hy => nm_r (nI_1 r) (hw (m', b4, b5, b6) hy)))))
/-- entrywise -/
theorem sk_cross32 {post : St1 → Prop} {a1 a2 a3 a4 a7 f h g : Nat → Int32} {a b i : Nat} (hA : sk_R f a a1 a2 a3) (hB : sk_R h b a1 a2 a3) (ha : a < 5) (hb : b < 5) (hi : i < 6) (hg : ∀ c, g c = f c * h c)
    (H : ∀ m' b5 b6, sk_B g (6 * (i + 1)) i m' a4 b5 b6 → post (m', a1, a2, a3, a4, b5, b6, a7)) :
    ∀ (d c : Nat) (m : Int32) (a5 a6 : Nat → Int32), 6 * i ≤ c → c ≤ 6 * (i + 1) → 6 * (i + 1) - c ≤ d → sk_B g c i m a4 a5 a6 → wX_crossRow_32 post (nI (a * 36 + sk_c f (6 * (i + 1)))) (nI (b * 36 + sk_c h (6 * (i + 1)))) (d + 1) (nI (a * 36 + sk_c f c)) (nI (b * 36 + sk_c h c)) m a1 a2 a3 a4 a5 a6 a7 := by
  have lf := sk_cle f (6 * (i + 1))
  have lh := sk_cle h (6 * (i + 1))
  intro d
  induction d with
  | zero =>
    intro c m a5 a6 h1 h2 h3 hS
    have e : c = 6 * (i + 1) := by omega
    rw [e]
    rw [e] at hS
    exact pk_le (a * 36 + sk_c f (6 * (i + 1))) (a * 36 + sk_c f (6 * (i + 1))) (fun _ => H _ _ _ hS) (fun z => absurd z (by omega))
  | succ d ih =>
    intro c m a5 a6 h1 h2 h3 hS
    obtain ⟨X, hX⟩ := sk_nxt f h2
    obtain ⟨Y, hY⟩ := sk_nxt h h2
    have iX := sk_Xlt hX
    have iY := sk_Xlt hY
    have cX := sk_Xc hX
    have cY := sk_Xc hY
    obtain ⟨x1, x2, x3, x4⟩ := hX
    obtain ⟨y1, y2, y3, y4⟩ := hY
    rw [← cX, ← cY]
    rw [← cX] at iX
    rw [← cY] at iY
    have lX := sk_cle f X
    have lY := sk_cle h Y
    refine pk_le (a * 36 + sk_c f (6 * (i + 1))) (a * 36 + sk_c f X) (fun z => H _ _ _ (sk_skip hS h2 (fun y q1 q2 => ?_))) (fun z => pk_le (b * 36 + sk_c h (6 * (i + 1))) (b * 36 + sk_c h Y) (fun z2 => H _ _ _ (sk_skip hS h2 (fun y q1 q2 => ?_))) (fun z2 => ?_))
    · rw [hg, x3 y q1 (by omega), Int32.zero_mul]
    · rw [hg, y3 y q1 (by omega), Int32.mul_zero]
    · have hX1 : X < 6 * (i + 1) := by omega
      have hY1 : Y < 6 * (i + 1) := by omega
      have nX := x4 hX1
      have nY := y4 hY1
      rw [sk_a2 hA ha (by omega) nX, sk_a2 hB hb (by omega) nY, sk_a3 hA ha (by omega) nX, sk_a3 hB hb (by omega) nY]
      refine ⟨sk_in ha (by omega), sk_in hb (by omega), pk_eq (X % 6) (Y % 6) (fun q => ?_) (fun q => ⟨sk_in ha (by omega), sk_in hb (by omega), pk_le (Y % 6) (X % 6) (fun q2 => ?_) (fun q2 => ?_)⟩)⟩
      · have e : Y = X := by omega
        subst e
        refine ⟨sk_in ha (by omega), sk_in ha (by omega), sk_in hb (by omega), sk_emit (sk_skip hS x1 (fun y q1 q2 => ?_)) (by omega) rfl (hg _).symm (fun m' b5 b6 hq => nm_r (nI_1 _) (nm_r (nI_1 _) ?_))⟩
        · rw [hg, x3 y q1 q2, Int32.zero_mul]
        · have t := ih (Y + 1) m' b5 b6 (by omega) (by omega) (by omega) hq
          rw [sk_cn nX, sk_cn nY] at t
          exact t
      · refine nm_r (nI_1 _) ?_
        have t := ih (Y + 1) m a5 a6 (by omega) (by omega) (by omega) (sk_skip hS (by omega) (fun y q1 q2 => by rw [hg, x3 y q1 (by omega), Int32.zero_mul]))
        rw [sk_cn nY, sk_flat (f := f) (c := c) (d := Y + 1) (by omega) (fun y q1 q2 => x3 y q1 (by omega)), ← cX] at t
        exact t
      · refine nm_r (nI_1 _) ?_
        have t := ih (X + 1) m a5 a6 (by omega) (by omega) (by omega) (sk_skip hS (by omega) (fun y q1 q2 => by rw [hg, y3 y q1 (by omega), Int32.mul_zero]))
        rw [sk_cn nX, sk_flat (f := h) (c := c) (d := X + 1) (by omega) (fun y q1 q2 => y3 y q1 (by omega)), ← cY] at t
        exact t
theorem sk_cRow {post : St1 → Prop} {m : Int32} {a1 a2 a3 a4 a5 a6 a7 f h g : Nat → Int32} {a b i : Nat} (hA : sk_R f a a1 a2 a3) (hB : sk_R h b a1 a2 a3) (ha : a < 5) (hb : b < 5) (hi : i < 6) (hg : ∀ c, g c = f c * h c) (hS : sk_B g (6 * i) i m a4 a5 a6)
    (H : ∀ m' b5 b6, sk_B g (6 * (i + 1)) i m' a4 b5 b6 → post (m', a1, a2, a3, a4, b5, b6, a7)) : wpX_crossRow post (m, a1, a2, a3, a4, a5, a6, a7) (nI a) (nI b) (nI i) := by
  rw [wpX_crossRow]
  exact sk_from hA ha hi (sk_from hB hb hi (sk_upTo hA ha hi (sk_upTo hB hb hi ⟨7, sk_cross32 hA hB ha hb hi hg H 6 (6 * i) m a5 a6 (by omega) (by omega) (by omega) hS⟩)))
theorem sk_entry {post : Int32 → St1 → Prop} {M : Nat → Nat → Int32} {u : St1} {t a b : Nat} (hQ : sk_Q M u) (ht : t < 5) (ha : a < 5) (hb : b < 5) (H : ∀ r v, sk_Q (sk_up M t (fun c => M a c * M b c)) v → post r v) : wpX_entrywise post u (nI t) (nI a) (nI b) := by
  obtain ⟨m, a1, a2, a3, a4, a5, a6, a7⟩ := u
  have hP : sk_P M a1 a2 a3 := hQ
  rw [wpX_entrywise]
  refine sk_slot ht (br_f (by decide) (sk_slot ha (br_f (by decide) (sk_slot hb (br_f (by decide) (sk_begin (fun c => M a c * M b c) (fun b4 hb4 => ?_)))))))
  exact pk_loop (fun n r q => wX_entrywise_30 post (nI t) (nI a) (nI b) n (nI r) q.1 a1 a2 a3 q.2.1 q.2.2.1 q.2.2.2 a7) (fun r q => sk_B (fun c => M a c * M b c) (6 * r) r q.1 q.2.1 q.2.2.1 q.2.2.2) 6 0 (0, b4, a5, a6) (by omega) hb4
    (fun n q h => pk_le 6 6 (fun _ => sk_store hP h ht (fun r w hw => H r w hw)) (fun z => absurd z (by omega)))
    (fun n r q hr h hw => pk_le 6 r (fun z => absurd z (by omega)) (fun _ => sk_cRow (hP a ha) (hP b hb) ha hb hr (fun _ => rfl) h (fun m' b5 b6 hx => sk_end hx hr (fun b4 hy => nm_r (nI_1 r) (hw (m', b4, b5, b6) hy)))))
end
section
theorem sk_atv {post : Int32 → Prop} {M : Nat → Nat → Int32} {u : St1} {s i j : Nat} (hQ : sk_Q M u) (hs : s < 5) (hi : i < 6) (hj : j < 6) (H : post (M s (6 * i + j))) : wpX_at post u (nI s) (nI i) (nI j) := by
  obtain ⟨m, a1, a2, a3, a4, a5, a6, a7⟩ := u
  have hP : sk_P M a1 a2 a3 := hQ
  have lc := sk_cle (M s) (6 * i + j)
  rw [wpX_at]
  refine sk_slot hs (br_f (by decide) (sk_index hi (br_f (by decide) (sk_index hj (br_f (by decide) (sk_find (hP s hs) hs hi hj (fun hn => br_t (nI_pos' (by omega)) ⟨sk_in hs (by omega), ?_⟩) (fun hz => br_f (by decide) ?_)))))))
  · rw [sk_a3 (hP s hs) hs (by omega) hn]
    exact H
  · rw [hz] at H
    exact H
theorem sk_count {post : Int32 → Prop} {M : Nat → Nat → Int32} {u : St1} {s : Nat} (hQ : sk_Q M u) (hs : s < 5) (H : post (nI (sk_c (M s) (6 * 6)))) : wpX_count post u (nI s) := by
  obtain ⟨m, a1, a2, a3, a4, a5, a6, a7⟩ := u
  have hP : sk_P M a1 a2 a3 := hQ
  rw [wpX_count]
  refine sk_slot hs (br_f (by decide) ?_)
  rw [show nI s * 7 + 6 = nI (s * 7 + 6) from sk_m7 s 6, nI_clamp (by omega), (hP s hs).1 6 (by omega)]
  exact ⟨vp_in_nI (by omega) (by omega), H⟩
/-- next: the least column from j on -/
def sk_N (f : Nat → Int32) (i j : Nat) (r : Int32) : Prop := (r = -1 ∧ ∀ y, j ≤ y → y < 6 → f (6 * i + y) = 0) ∨ ∃ x, j ≤ x ∧ x < 6 ∧ ¬ f (6 * i + x) = 0 ∧ (∀ y, j ≤ y → y < x → f (6 * i + y) = 0) ∧ r = nI x
theorem sk_Nu {f : Nat → Int32} {i j : Nat} {r r' : Int32} (h : sk_N f i j r) (h' : sk_N f i j r') : r = r' := by
  rcases h with ⟨e, z⟩ | ⟨x, x1, x2, x3, x4, e⟩
  · rcases h' with ⟨e', z'⟩ | ⟨x', y1, y2, y3, y4, e'⟩
    · rw [e, e']
    · exact absurd (z x' y1 y2) y3
  · rcases h' with ⟨e', z'⟩ | ⟨x', y1, y2, y3, y4, e'⟩
    · exact absurd (z' x x1 x2) x3
    · rw [e, e']
      rcases Nat.lt_trichotomy x x' with q | q | q
      · exact absurd (y4 x x1 q) x3
      · rw [q]
      · exact absurd (x4 x' y1 q) y3
theorem sk_next {post : Int32 → Prop} {M : Nat → Nat → Int32} {u : St1} {s i j : Nat} (hQ : sk_Q M u) (hs : s < 5) (hi : i < 6) (hj : j < 6) (H : ∀ r, sk_N (M s) i j r → post r) : wpX_next post u (nI s) (nI i) (nI j) := by
  obtain ⟨m, a1, a2, a3, a4, a5, a6, a7⟩ := u
  have hR : sk_R (M s) s a1 a2 a3 := hQ s hs
  have le := sk_cle (M s) (6 * (i + 1))
  rw [wpX_next]
  refine sk_slot hs (br_f (by decide) (sk_index hi (br_f (by decide) (sk_from hR hs hi ?_))))
  refine sk_row (σ := Unit) (fun n k _ => wX_next_24 post (nI s) (nI i) (nI j) m a1 a2 a3 a4 a5 a6 a7 n k) (fun c _ => 6 * i ≤ c ∧ ∀ y, j ≤ y → 6 * i + y < c → M s (6 * i + y) = 0) (M s) (s * 36) (6 * (i + 1)) ?_ ?_ ?_ (6 * i) () (by omega) ⟨Nat.le_refl _, fun y q1 q2 => absurd q2 (by omega)⟩
  · intro c x _ h1 h2 h3 h
    refine ⟨by omega, fun y q1 q2 => ?_⟩
    by_cases e : 6 * i + y < c
    · exact h.2 y q1 e
    · exact h3 _ (by omega) q2
  · intro n _ h
    rw [wX_next_24]
    exact sk_upTo hR hs hi (pk_le (s * 36 + sk_c (M s) (6 * (i + 1))) (s * 36 + sk_c (M s) (6 * (i + 1))) (fun _ => H _ (Or.inl ⟨rfl, fun y q1 q2 => h.2 y q1 (by omega)⟩)) (fun z => absurd z (by omega)))
  · intro n c _ h1 h2 h hw
    have lc := sk_cle (M s) c
    have lt := sk_lt h1 h2
    have l6 := h.1
    rw [wX_next_24]
    refine sk_upTo hR hs hi (pk_le (s * 36 + sk_c (M s) (6 * (i + 1))) (s * 36 + sk_c (M s) c) (fun z => absurd z (by omega)) (fun _ => ⟨sk_in hs (by omega), ?_⟩))
    rw [sk_a2 hR hs (by omega) h2]
    refine pk_lt (c % 6) j (fun z => nm_r (nI_1 _) (hw () ⟨by omega, fun y q1 q2 => h.2 y q1 (by omega)⟩)) (fun z => ⟨sk_in hs (by omega), H _ (Or.inr ⟨c % 6, z, by omega, ?_, fun y q1 q2 => h.2 y q1 (by omega), rfl⟩)⟩)
    rw [show 6 * i + c % 6 = c by omega]
    exact h2
/-- symmetric -/
def sk_sym (f : Nat → Int32) : Prop := ∀ i j, i < 6 → j < 6 → f (6 * i + j) = f (6 * j + i)
theorem sk_symm {post : Int32 → Prop} {M : Nat → Nat → Int32} {u : St1} {s : Nat} (hQ : sk_Q M u) (hs : s < 5) (H1 : sk_sym (M s) → post 1) (H0 : ¬ sk_sym (M s) → post 0) : wpX_symmetric post u (nI s) := by
  obtain ⟨m, a1, a2, a3, a4, a5, a6, a7⟩ := u
  have hR : sk_R (M s) s a1 a2 a3 := hQ s hs
  rw [wpX_symmetric]
  refine sk_slot hs (br_f (by decide) ?_)
  refine pk_loop (σ := Unit) (fun n i _ => wX_symmetric_11 post (nI s) m a1 a2 a3 a4 a5 a6 a7 n (nI i)) (fun i _ => ∀ y, y < 6 * i → ¬ M s y = 0 → M s y = sk_tr (M s) y) 6 0 () (by omega) (fun y q => absurd q (by omega)) ?_ ?_
  · intro n _ h
    refine pk_le 6 6 (fun _ => H1 (fun i j hi hj => ?_)) (fun z => absurd z (by omega))
    by_cases e1 : M s (6 * i + j) = 0
    · by_cases e2 : M s (6 * j + i) = 0
      · rw [e1, e2]
      · have q := h (6 * j + i) (by omega) e2
        rw [sk_trAt _ hi] at q
        exact q.symm
    · have q := h (6 * i + j) (by omega) e1
      rw [sk_trAt _ hj] at q
      exact q
  · intro n i _ hi h hw
    have le := sk_cle (M s) (6 * (i + 1))
    refine pk_le 6 i (fun z => absurd z (by omega)) (fun _ => sk_from hR hs hi ?_)
    refine sk_row (σ := Unit) (fun n' k _ => wX_symmetric_24 post (wX_symmetric_11 post (nI s) m a1 a2 a3 a4 a5 a6 a7 n) (nI s) (nI i) m a1 a2 a3 a4 a5 a6 a7 n' k) (fun c _ => 6 * i ≤ c ∧ ∀ y, y < c → ¬ M s y = 0 → M s y = sk_tr (M s) y) (M s) (s * 36) (6 * (i + 1)) ?_ ?_ ?_ (6 * i) () (by omega) ⟨Nat.le_refl _, h⟩
    · intro c x _ h1 h2 h3 g
      refine ⟨by omega, fun y q1 q2 => ?_⟩
      by_cases e : y < c
      · exact g.2 y e q2
      · exact absurd (h3 y (by omega) q1) q2
    · intro n' _ g
      rw [wX_symmetric_24]
      exact sk_upTo hR hs hi (pk_le (s * 36 + sk_c (M s) (6 * (i + 1))) (s * 36 + sk_c (M s) (6 * (i + 1))) (fun _ => nm_r (nI_1 i) (hw () g.2)) (fun z => absurd z (by omega)))
    · intro n' c _ h1 h2 g hw'
      have lc := sk_cle (M s) c
      have lt := sk_lt h1 h2
      have l6 := g.1
      have lr := sk_cle (M s) (6 * (c % 6) + i)
      have ec : 6 * i + c % 6 = c := by omega
      have et : sk_tr (M s) c = M s (6 * (c % 6) + i) := by
        have q := sk_trAt (M s) (i := c % 6) (j := i) (by omega)
        rw [ec] at q
        exact q
      have ns : ¬ M s (6 * (c % 6) + i) = M s c → ¬ sk_sym (M s) := fun z hy => by
        have q := hy i (c % 6) hi (by omega)
        rw [ec] at q
        exact z q.symm
      rw [wX_symmetric_24]
      refine sk_upTo hR hs hi (pk_le (s * 36 + sk_c (M s) (6 * (i + 1))) (s * 36 + sk_c (M s) c) (fun z => absurd z (by omega)) (fun _ => ⟨sk_in hs (by omega), ?_⟩))
      rw [sk_a2 hR hs (by omega) h2, sk_a3 hR hs (by omega) h2]
      refine sk_find hR hs (by omega) hi (fun hn => br_f (nI_pos (by omega)) ⟨sk_in hs (by omega), sk_in hs (by omega), ?_⟩) (fun hz => br_t (by decide) (H0 (ns (fun q => h2 (by rw [← q]; exact hz)))))
      rw [sk_a3 hR hs (by omega) hn]
      refine br_c (fun z => nm_r (nI_1 _) (hw' () ⟨by omega, fun y q1 q2 => ?_⟩)) (fun z => H0 (ns z))
      by_cases e : y < c
      · exact g.2 y e q2
      · have ey : y = c := by omega
        rw [ey, et, z]
/-- rowsProduct -/
theorem sk_rp97 {post : Int32 → Prop} {J : Int32 → Int32 → Int32 → Prop} {x1 x2 x5 m : Int32} {a1 a2 a3 a4 a5 a6 a7 f h : Nat → Int32} {a b j c : Nat} (hA : sk_R f a a1 a2 a3) (hB : sk_R h b a1 a2 a3) (ha : a < 5) (hb : b < 5) (hj : j < 6) (hc : c < 36) (hf : ¬ f c = 0)
    (HJ : J (x5 + f c * h (6 * j + c % 6)) (nI (b * 36 + sk_c h (6 * j + c % 6))) (nI (a * 36 + sk_c f c + 1))) : wX_rowsProduct_97 post J x1 x2 (nI b) (nI j) x5 (nI (b * 36 + sk_c h (6 * j + c % 6))) (nI (a * 36 + sk_c f c)) m a1 a2 a3 a4 a5 a6 a7 := by
  have le := sk_cle h (6 * (j + 1))
  obtain ⟨Y, hY⟩ := sk_nxt h (c := 6 * j + c % 6) (e := 6 * (j + 1)) (by omega)
  have iY := sk_Xlt hY
  have cY := sk_Xc hY
  obtain ⟨y1, y2, y3, y4⟩ := hY
  rw [← cY]
  rw [← cY] at iY HJ
  have lY := sk_cle h Y
  unfold wX_rowsProduct_97
  refine sk_upTo hB hb hj (pk_le (b * 36 + sk_c h (6 * (j + 1))) (b * 36 + sk_c h Y) (fun z => nm_r (nI_1 _) ?_) (fun z => ⟨sk_in hb (by omega), sk_in ha hc, ?_⟩))
  · rw [y3 (6 * j + c % 6) (by omega) (by omega), Int32.mul_zero, Int32.add_zero] at HJ
    exact HJ
  · have nY := y4 (by omega)
    rw [sk_a2 hB hb (by omega) nY, sk_a2 hA ha hc hf, sk_a3 hB hb (by omega) nY, sk_a3 hA ha hc hf]
    refine pk_eq (Y % 6) (c % 6) (fun q => ⟨sk_in ha hc, sk_in hb (by omega), nm_e (nm_r (nI_1 _) ?_)⟩) (fun q => nm_r (nI_1 _) ?_)
    · rw [show 6 * j + c % 6 = Y by omega] at HJ
      exact HJ
    · rw [y3 (6 * j + c % 6) (by omega) (by omega), Int32.mul_zero, Int32.add_zero] at HJ
      exact HJ
theorem sk_rp62 {post : Int32 → Prop} {J : Int32 → Int32 → Int32 → Prop} {x1 x2 x5 m : Int32} {a1 a2 a3 a4 a5 a6 a7 f h : Nat → Int32} {a b j c : Nat} (hA : sk_R f a a1 a2 a3) (hB : sk_R h b a1 a2 a3) (ha : a < 5) (hb : b < 5) (hj : j < 6) (hc : c < 36) (hf : ¬ f c = 0)
    (HJ : J (x5 + f c * h (6 * j + c % 6)) (nI (b * 36 + sk_c h (6 * j + c % 6))) (nI (a * 36 + sk_c f c + 1))) :
    ∀ d q : Nat, 6 * j ≤ q → q ≤ 6 * j + c % 6 → 6 * j + c % 6 - q ≤ d → wX_rowsProduct_62 post J x1 x2 (nI b) (nI j) x5 (nI (a * 36 + sk_c f c)) m a1 a2 a3 a4 a5 a6 a7 (d + 1) (nI (b * 36 + sk_c h q)) := by
  have le := sk_cle h (6 * (j + 1))
  have e97 := sk_rp97 (post := post) (J := J) (x1 := x1) (x2 := x2) (x5 := x5) (m := m) (a4 := a4) (a5 := a5) (a6 := a6) (a7 := a7) hA hB ha hb hj hc hf HJ
  have stop : ∀ n q Y : Nat, sk_X h q (6 * (j + 1)) Y → q ≤ 6 * j + c % 6 → 6 * j + c % 6 ≤ Y → wX_rowsProduct_62 post J x1 x2 (nI b) (nI j) x5 (nI (a * 36 + sk_c f c)) m a1 a2 a3 a4 a5 a6 a7 (n + 1) (nI (b * 36 + sk_c h q)) := by
    intro n q Y hY hq hqY
    have iY := sk_Xlt hY
    have cY := sk_Xc hY
    obtain ⟨y1, y2, y3, y4⟩ := hY
    have ce : sk_c h (6 * j + c % 6) = sk_c h q := sk_flat hq (fun y q1 q2 => y3 y q1 (by omega))
    rw [ce, ← cY] at e97
    rw [← cY]
    rw [← cY] at iY
    have lY := sk_cle h Y
    rw [wX_rowsProduct_62]
    refine sk_upTo hB hb hj (pk_le (b * 36 + sk_c h (6 * (j + 1))) (b * 36 + sk_c h Y) (fun z => e97) (fun z => ⟨sk_in hb (by omega), sk_in ha hc, ?_⟩))
    rw [sk_a2 hB hb (by omega) (y4 (by omega)), sk_a2 hA ha hc hf]
    exact pk_le (c % 6) (Y % 6) (fun _ => e97) (fun z2 => absurd z2 (by omega))
  intro d
  induction d with
  | zero =>
    intro q h1 h2 h3
    obtain ⟨Y, hY⟩ := sk_nxt h (c := q) (e := 6 * (j + 1)) (by omega)
    have y1 := hY.1
    exact stop 0 q Y hY h2 (by omega)
  | succ d ih =>
    intro q h1 h2 h3
    obtain ⟨Y, hY⟩ := sk_nxt h (c := q) (e := 6 * (j + 1)) (by omega)
    by_cases hq : 6 * j + c % 6 ≤ Y
    · exact stop (d + 1) q Y hY h2 hq
    · have iY := sk_Xlt hY
      have cY := sk_Xc hY
      obtain ⟨y1, y2, y3, y4⟩ := hY
      rw [← cY]
      rw [← cY] at iY
      have lY := sk_cle h Y
      have nY := y4 (by omega)
      rw [wX_rowsProduct_62]
      refine sk_upTo hB hb hj (pk_le (b * 36 + sk_c h (6 * (j + 1))) (b * 36 + sk_c h Y) (fun z => absurd z (by omega)) (fun z => ⟨sk_in hb (by omega), sk_in ha hc, ?_⟩))
      rw [sk_a2 hB hb (by omega) nY, sk_a2 hA ha hc hf]
      refine pk_le (c % 6) (Y % 6) (fun z2 => absurd z2 (by omega)) (fun _ => nm_r (nI_1 _) ?_)
      have t := ih (Y + 1) (by omega) (by omega) (by omega)
      rw [sk_cn nY] at t
      exact t
theorem sk_rows {post : Int32 → Prop} {M : Nat → Nat → Int32} {u : St1} {a i b j : Nat} (hQ : sk_Q M u) (ha : a < 5) (hi : i < 6) (hb : b < 5) (hj : j < 6) (H : post (sk_s (fun k => M a (6 * i + k) * M b (6 * j + k)) 6)) : wpX_rowsProduct post u (nI a) (nI i) (nI b) (nI j) := by
  obtain ⟨m, a1, a2, a3, a4, a5, a6, a7⟩ := u
  have hA : sk_R (M a) a a1 a2 a3 := hQ a ha
  have hB : sk_R (M b) b a1 a2 a3 := hQ b hb
  have le := sk_cle (M a) (6 * (i + 1))
  rw [wpX_rowsProduct]
  refine sk_slot ha (br_f (by decide) (sk_index hi (br_f (by decide) (sk_slot hb (br_f (by decide) (sk_index hj (br_f (by decide) (sk_from hB hb hj (sk_from hA ha hi ?_)))))))))
  refine sk_row (σ := Int32 × Int32) (fun n k s => wX_rowsProduct_51 post (nI a) (nI i) (nI b) (nI j) m a1 a2 a3 a4 a5 a6 a7 n s.1 s.2 k) (fun c s => 6 * i ≤ c ∧ s.1 = sk_s (fun k => M a (6 * i + k) * M b (6 * j + k)) (c - 6 * i) ∧ ∃ q, 6 * j ≤ q ∧ q ≤ 6 * j + (c - 6 * i) ∧ s.2 = nI (b * 36 + sk_c (M b) q)) (M a) (a * 36) (6 * (i + 1)) ?_ ?_ ?_ (6 * i) (0, nI (b * 36 + sk_c (M b) (6 * j))) (by omega) ⟨Nat.le_refl _, by rw [Nat.sub_self]; rfl, 6 * j, by omega, by omega, rfl⟩
  · intro c x s h1 h2 h3 g
    obtain ⟨g1, g2, q, g3, g4, g5⟩ := g
    refine ⟨by omega, ?_, q, g3, by omega, g5⟩
    rw [g2, sk_sz (show c - 6 * i ≤ x - 6 * i by omega) (fun y q1 q2 => by rw [h3 _ (by omega) (by omega), Int32.zero_mul])]
  · intro n s g
    obtain ⟨g1, g2, g3⟩ := g
    rw [wX_rowsProduct_51]
    refine sk_upTo hA ha hi (pk_le (a * 36 + sk_c (M a) (6 * (i + 1))) (a * 36 + sk_c (M a) (6 * (i + 1))) (fun _ => ?_) (fun z => absurd z (by omega)))
    rw [g2, show 6 * (i + 1) - 6 * i = 6 by omega]
    exact H
  · intro n c s h1 h2 g hw
    obtain ⟨g1, g2, q, g3, g4, g5⟩ := g
    have lc := sk_cle (M a) c
    have lt := sk_lt h1 h2
    have em : c % 6 = c - 6 * i := by omega
    rw [wX_rowsProduct_51, g5]
    refine sk_upTo hA ha hi (pk_le (a * 36 + sk_c (M a) (6 * (i + 1))) (a * 36 + sk_c (M a) c) (fun z => absurd z (by omega)) (fun _ => ⟨7, sk_rp62 hA hB ha hb hj (by omega) h2 (hw (_, _) ⟨by omega, ?_, 6 * j + c % 6, by omega, by omega, rfl⟩) 6 q g3 (by omega) (by omega)⟩))
    rw [show c + 1 - 6 * i = (c - 6 * i) + 1 by omega, sk_s1, g2, em, show 6 * i + (c - 6 * i) = c by omega]
/-- same, of two slots that hold the same matrix -/
theorem sk_same {post : Int32 → Prop} {M : Nat → Nat → Int32} {u : St1} {a b : Nat} (hQ : sk_Q M u) (ha : a < 5) (hb : b < 5) (he : ∀ c, c < 36 → M a c = M b c) (H : post 1) : wpX_same post u (nI a) (nI b) := by
  obtain ⟨m, a1, a2, a3, a4, a5, a6, a7⟩ := u
  have hA : sk_R (M a) a a1 a2 a3 := hQ a ha
  have hB : sk_R (M b) b a1 a2 a3 := hQ b hb
  have le := sk_cle (M a) (6 * 6)
  rw [wpX_same]
  refine sk_slot ha (br_f (by decide) (sk_slot hb (br_f (by decide) ?_)))
  refine pk_loop (σ := Unit) (fun n i _ => wX_same_18 post (nI a) (nI b) m a1 a2 a3 a4 a5 a6 a7 n (nI i)) (fun _ _ => True) 7 0 () (by omega) trivial ?_ ?_
  · intro n _ _
    refine pk_lt 6 7 (fun _ => ?_) (fun z => absurd z (by omega))
    refine pk_loop (σ := Unit) (fun n i _ => wX_same_59 post (nI a) (nI b) m a1 a2 a3 a4 a5 a6 a7 n (nI i)) (fun _ _ => True) (sk_c (M a) (6 * 6)) 0 () (by omega) trivial ?_ ?_
    · intro n _ _
      rw [wX_same_59, show nI a * 7 + 6 = nI (a * 7 + 6) from sk_m7 a 6, nI_clamp (by omega), hA.1 6 (by omega)]
      exact ⟨vp_in_nI (by omega) (by omega), pk_le (sk_c (M a) (6 * 6)) (sk_c (M a) (6 * 6)) (fun _ => H) (fun z => absurd z (by omega))⟩
    · intro n k _ hk _ hw
      obtain ⟨x, x1, x2, x3⟩ := sk_at (M a) (6 * 6) k hk
      have qa := hA.2 x (by omega) x2
      have qb := hB.2 x (by omega) (by rw [← he x (by omega)]; exact x2)
      rw [x3] at qa
      rw [← sk_congr x (fun y hy => he y (by omega)), x3, ← he x (by omega)] at qb
      rw [wX_same_59, show nI a * 7 + 6 = nI (a * 7 + 6) from sk_m7 a 6, nI_clamp (by omega), hA.1 6 (by omega)]
      refine ⟨vp_in_nI (by omega) (by omega), pk_le (sk_c (M a) (6 * 6)) k (fun z => absurd z (by omega)) (fun _ => nm_r (sk_m36 a k) (nm_r (sk_m36 b k) ?_))⟩
      rw [nI_clamp (show a * 36 + k < 2 ^ 31 by omega), nI_clamp (show b * 36 + k < 2 ^ 31 by omega), qa.1, qa.2, qb.1, qb.2]
      exact ⟨vp_in_nI (by omega) (by omega), vp_in_nI (by omega) (by omega), br_t rfl ⟨vp_in_nI (by omega) (by omega), vp_in_nI (by omega) (by omega), br_t rfl (nm_r (nI_1 k) (hw () trivial))⟩⟩
  · intro n i _ hi _ hw
    refine pk_lt 6 i (fun z => absurd z (by omega)) (fun _ => ?_)
    rw [sk_m7, sk_m7, nI_clamp (by omega), nI_clamp (by omega), hA.1 i (by omega), hB.1 i (by omega), sk_congr (6 * i) (fun y hy => he y (by omega))]
    exact ⟨vp_in_nI (by omega) (by omega), vp_in_nI (by omega) (by omega), br_t rfl (nm_r (nI_1 i) (hw () trivial))⟩
end
section
/-- even: 1 while every pair of P is alike, else 0 and the matrix isn't symmetric -/
def sk_E (f : Nat → Int32) (P : Nat → Nat → Prop) (x : Int32) : Prop := (x = 1 ∧ ∀ i j, i < 6 → j < 6 → P i j → f (6 * i + j) = f (6 * j + i)) ∨ (x = 0 ∧ ¬ sk_sym f)
theorem sk_Ew {f : Nat → Int32} {P P' : Nat → Nat → Prop} {x : Int32} (h : sk_E f P x) (w : ∀ i j, i < 6 → j < 6 → P' i j → P i j) : sk_E f P' x := by
  rcases h with ⟨e, q⟩ | q
  · exact Or.inl ⟨e, fun i j hi hj hp => q i j hi hj (w i j hi hj hp)⟩
  · exact Or.inr q
theorem sk_slot20 {post : Int32 → Prop} {J : Int32 → Int32 → Int32 → Prop} {M : Nat → Nat → Int32} {m y3 : Int32} {a1 a2 a3 a4 a5 a6 a7 : Nat → Int32} {s i : Nat} (hQ : sk_Q M (m, a1, a2, a3, a4, a5, a6, a7)) (hs : s < 5) (hi : i < 6) (hE : sk_E (M s) (fun i' _ => i' < i) y3)
    (HJ : ∀ z, sk_E (M s) (fun i' _ => i' < i + 1) z → J (nI (sk_c (M s) (6 * (i + 1)))) z (nI (i + 1))) : ∃ n, wL_slot_20 post J (nI s) (nI i) m a1 a2 a3 a4 a5 a6 a7 n (nI (sk_c (M s) (6 * i))) y3 (-1) 5 := by
  have key := pk_loopD (σ := Int32 × Int32 × Int32) (fun n q w => wL_slot_20 post J (nI s) (nI i) m a1 a2 a3 a4 a5 a6 a7 n w.1 w.2.1 w.2.2 (nI q + (-1))) (fun q w => q ≤ 6 ∧ w.1 = nI (sk_c (M s) (6 * i) + (sk_c (M s) (6 * (i + 1)) - sk_c (M s) (6 * i + q))) ∧ sk_E (M s) (fun i' j' => i' < i ∨ (i' = i ∧ q ≤ j')) w.2.1 ∧ sk_N (M s) i q w.2.2) ?_ ?_ 6 (nI (sk_c (M s) (6 * i)), y3, -1) ⟨Nat.le_refl _, ?_, ?_, ?_⟩
  · have k2 : wL_slot_20 post J (nI s) (nI i) m a1 a2 a3 a4 a5 a6 a7 7 (nI (sk_c (M s) (6 * i))) y3 (-1) (nI 6 + (-1)) := key
    rw [show nI 6 + (-1) = (5 : Int32) from by decide] at k2
    exact ⟨7, k2⟩
  · intro n w h
    obtain ⟨h0, h1, h2, h3⟩ := h
    have mo := sk_mono (M s) (show 6 * i ≤ 6 * (i + 1) by omega)
    rw [h1]
    refine br_t (by decide) (nm_r (nI_1 i) ?_)
    rw [show sk_c (M s) (6 * i) + (sk_c (M s) (6 * (i + 1)) - sk_c (M s) (6 * i + 0)) = sk_c (M s) (6 * (i + 1)) by rw [Nat.add_zero (6 * i)]; omega]
    exact HJ _ (sk_Ew h2 (fun i' j' _ _ hp => by omega))
  · intro n j w h hw
    obtain ⟨x2, x3, x5⟩ := w
    obtain ⟨h0, h1, h2, h3⟩ := h
    have h1' : x2 = nI (sk_c (M s) (6 * i) + (sk_c (M s) (6 * (i + 1)) - sk_c (M s) (6 * i + (j + 1)))) := h1
    have h2' : sk_E (M s) (fun i' j' => i' < i ∨ (i' = i ∧ j + 1 ≤ j')) x3 := h2
    have h3' : sk_N (M s) i (j + 1) x5 := h3
    clear h1 h2 h3
    have hj : j < 6 := by omega
    have mo := sk_mono (M s) (show 6 * i + j + 1 ≤ 6 * (i + 1) by omega)
    show wL_slot_20 post J (nI s) (nI i) m a1 a2 a3 a4 a5 a6 a7 (n + 1) x2 x3 x5 (nI (j + 1) + (-1))
    rw [pk_m1]
    have h86 : ∀ z2 z3 z5 : Int32, z2 = nI (sk_c (M s) (6 * i) + (sk_c (M s) (6 * (i + 1)) - sk_c (M s) (6 * i + j))) → sk_E (M s) (fun i' j' => i' < i ∨ (i' = i ∧ j ≤ j')) z3 → sk_N (M s) i j z5 → wL_slot_86 post J (wL_slot_20 post J (nI s) (nI i) m a1 a2 a3 a4 a5 a6 a7 n) (nI s) z2 (nI i) z5 (nI j) z3 m a1 a2 a3 a4 a5 a6 a7 := by
      intro z2 z3 z5 e2 e3 e5
      unfold wL_slot_86
      exact sk_next hQ hs hi hj (fun r hr => br_t (sk_Nu hr e5) (nm_e (hw (z2, z3, z5) ⟨by omega, e2, e3, e5⟩)))
    have h61 : ∀ z2 z5 : Int32, z2 = nI (sk_c (M s) (6 * i) + (sk_c (M s) (6 * (i + 1)) - sk_c (M s) (6 * i + j))) → sk_N (M s) i j z5 → wL_slot_61 post J (wL_slot_20 post J (nI s) (nI i) m a1 a2 a3 a4 a5 a6 a7 n) (nI s) z2 x3 (nI i) (nI j) (M s (6 * i + j)) z5 m a1 a2 a3 a4 a5 a6 a7 := by
      intro z2 z5 e2 e5
      unfold wL_slot_61
      rcases h2' with ⟨e, q⟩ | ⟨e, q⟩
      · rw [e]
        refine br_f (by decide) (sk_atv hQ hs hj hi (br_c (fun z => h86 _ _ _ e2 (Or.inl ⟨rfl, fun i' j' hi' hj' hp => ?_⟩) e5) (fun z => ?_)))
        · by_cases e : i' = i ∧ j' = j
          · rw [e.1, e.2]
            exact z
          · exact q i' j' hi' hj' (by omega)
        · unfold wL_slot_85
          exact h86 _ _ _ e2 (Or.inr ⟨rfl, fun y => z (y i j hi hj)⟩) e5
      · rw [e]
        refine br_t rfl ?_
        unfold wL_slot_85
        exact h86 _ _ _ e2 (Or.inr ⟨rfl, q⟩) e5
    refine br_f (nI_pos (by omega)) (sk_atv hQ hs hi hj (br_c (fun z => ?_) (fun z => ?_)))
    · unfold wL_slot_48
      refine br_t z (h61 _ _ ?_ ?_)
      · rw [h1', show 6 * i + (j + 1) = 6 * i + j + 1 by omega, sk_cz z]
      · rcases h3' with ⟨e, q⟩ | ⟨x, q1, q2, q3, q4, e⟩
        · refine Or.inl ⟨e, fun y y1 y2 => ?_⟩
          by_cases ey : y = j
          · rw [ey]
            exact z
          · exact q y (by omega) y2
        · refine Or.inr ⟨x, by omega, q2, q3, fun y y1 y2 => ?_, e⟩
          by_cases ey : y = j
          · rw [ey]
            exact z
          · exact q4 y (by omega) y2
    · unfold wL_slot_48
      refine br_f z (h61 _ _ ?_ ?_)
      · have en := sk_cn z
        rw [h1', nI_1, show 6 * i + (j + 1) = 6 * i + j + 1 by omega]
        exact congrArg nI (by omega)
      · exact Or.inr ⟨j, Nat.le_refl _, hj, z, fun y y1 y2 => absurd y2 (by omega), rfl⟩
  · show nI (sk_c (M s) (6 * i)) = _
    rw [show 6 * i + 6 = 6 * (i + 1) by omega, Nat.sub_self, Nat.add_zero]
  · exact sk_Ew hE (fun i' j' _ _ hp => by omega)
  · exact Or.inl ⟨rfl, fun y y1 y2 => absurd y2 (by omega)⟩
theorem sk_slotL {post : Int32 → Prop} {M : Nat → Nat → Int32} {u : St1} {s : Nat} (hQ : sk_Q M u) (hs : s < 5) (H : post 1) : wpL_slot post u (nI s) := by
  obtain ⟨m, a1, a2, a3, a4, a5, a6, a7⟩ := u
  refine pk_loop (σ := Int32 × Int32) (fun n i w => wL_slot_7 post (nI s) m a1 a2 a3 a4 a5 a6 a7 n w.1 w.2 (nI i)) (fun i w => w.1 = nI (sk_c (M s) (6 * i)) ∧ sk_E (M s) (fun i' _ => i' < i) w.2) 6 0 (0, 1) (by omega) ⟨rfl, Or.inl ⟨rfl, fun i j _ _ hp => absurd hp (by omega)⟩⟩ ?_ ?_
  · intro n w h
    obtain ⟨h1, h2⟩ := h
    refine pk_le 6 6 (fun _ => sk_count hQ hs (br_t h1.symm (sk_symm hQ hs (fun y => ?_) (fun y => ?_)))) (fun z => absurd z (by omega))
    · rcases h2 with ⟨e, q⟩ | ⟨e, q⟩
      · exact br_t e.symm H
      · exact absurd y q
    · rcases h2 with ⟨e, q⟩ | ⟨e, q⟩
      · exact absurd (fun i j hi hj => q i j hi hj hi) y
      · exact br_t e.symm H
  · intro n i w hi h hw
    obtain ⟨h1, h2⟩ := h
    rw [h1]
    exact pk_le 6 i (fun z => absurd z (by omega)) (fun _ => sk_slot20 hQ hs hi h2 (fun z hz => hw (_, z) ⟨rfl, hz⟩))
/-- products -/
theorem sk_products {post : Int32 → St1 → Prop} {M : Nat → Nat → Int32} {u : St1} {a b t c : Nat} (hQ : sk_Q M u) (ha : a < 5) (hb : b < 5) (ht : t < 5) (hc : c < 36) (H : ∀ M' v, sk_Q M' v → post 1 v) : wpL_products post u (nI a) (nI b) (nI t) (nI c) := by
  obtain ⟨m, a1, a2, a3, a4, a5, a6, a7⟩ := u
  have hi : c / 6 < 6 := by omega
  have hj : c % 6 < 6 := by omega
  rw [wpL_products]
  refine ⟨by decide, nm_r (e' := nI (c / 6)) (pk_div (d := 6) (by omega) (by decide) (by decide)) ⟨by decide, nm_r (e' := nI (c % 6)) (pk_rem (d := 6) (by omega) (by decide) (by decide)) ?_⟩⟩
  refine pk_loop (σ := Int32) (fun n k w => wL_products_20 post (nI a) (nI b) (nI t) (nI (c / 6)) (nI (c % 6)) m a1 a2 a3 a4 a5 a6 a7 n w (nI k)) (fun k w => w = sk_s (fun k => M a (6 * (c / 6) + k) * M b (6 * k + c % 6)) k) 6 0 0 (by omega) rfl ?_ ?_
  · intro n w h
    refine pk_le 6 6 (fun _ => sk_rows hQ ha hi hb hj (sk_rows hQ hb hj ha hi (sk_product hQ ht ha hb (fun r v hv => ?_)))) (fun z => absurd z (by omega))
    obtain ⟨m', b1, b2, b3, b4, b5, b6, b7⟩ := v
    refine sk_atv hv ht hi hj (br_t ?_ (br_t ?_ (H _ _ hv)))
    · rw [sk_ups, sk_prAt _ _ hj, h]
    · exact sk_scongr 6 (fun y _ => Int32.mul_comm _ _)
  · intro n k w hk h hw
    exact pk_le 6 k (fun z => absurd z (by omega)) (fun _ => sk_atv hQ ha hi hk (sk_atv hQ hb hk hj (nm_e (nm_r (nI_1 k) (hw _ (by rw [h]; rfl))))))
/-- twice -/
theorem sk_tr2 (f : Nat → Int32) {c : Nat} (hc : c < 36) : sk_tr (sk_tr f) c = f c := by
  have e : c = 6 * (c / 6) + c % 6 := by omega
  rw [e, sk_trAt _ (by omega), sk_trAt _ (by omega)]
theorem sk_twice {post : Int32 → St1 → Prop} {M : Nat → Nat → Int32} {u : St1} {a b t w : Nat} (hQ : sk_Q M u) (ha : a < 5) (hb : b < 5) (ht : t < 5) (hw : w < 5) (H : ∀ M' v, sk_Q M' v → post 1 v) : wpL_twice post u (nI a) (nI b) (nI t) (nI w) := by
  obtain ⟨m, a1, a2, a3, a4, a5, a6, a7⟩ := u
  rw [wpL_twice]
  refine pk_eq t a (fun _ => H _ _ hQ) (fun n1 => pk_eq w a (fun _ => H _ _ hQ) (fun n2 => pk_eq t w (fun _ => H _ _ hQ) (fun n3 => pk_eq t b (fun _ => H _ _ hQ) (fun n4 => pk_eq w b (fun _ => H _ _ hQ) (fun n5 => ?_)))))
  refine sk_transpose hQ ht ha (fun r1 v1 hv1 => ?_)
  obtain ⟨m1, b1, b2, b3, b4, b5, b6, b7⟩ := v1
  refine sk_transpose hv1 hw ht (fun r2 v2 hv2 => ?_)
  obtain ⟨m2, c1, c2, c3, c4, c5, c6, c7⟩ := v2
  have ea : sk_up (sk_up M t (sk_tr (M a))) w (sk_tr (sk_up M t (sk_tr (M a)) t)) a = M a := by rw [sk_upn _ _ (Ne.symm n2), sk_upn _ _ (Ne.symm n1)]
  have ew : sk_up (sk_up M t (sk_tr (M a))) w (sk_tr (sk_up M t (sk_tr (M a)) t)) w = sk_tr (sk_tr (M a)) := by rw [sk_ups, sk_ups]
  generalize sk_up (sk_up M t (sk_tr (M a))) w (sk_tr (sk_up M t (sk_tr (M a)) t)) = M2 at hv2 ea ew
  refine sk_same hv2 hw ha (fun c hc => by rw [ea, ew, sk_tr2 _ hc]) (sk_add hv2 ht ha hb (fun r3 v3 hv3 => ?_))
  obtain ⟨m3, d1, d2, d3, d4, d5, d6, d7⟩ := v3
  refine sk_add hv3 hw hb ha (fun r4 v4 hv4 => ?_)
  obtain ⟨m4, e1, e2, e3, e4, e5, e6, e7⟩ := v4
  refine br_f (by decide) (sk_same hv4 ht hw (fun c hc => ?_) (br_f (by decide) (H _ _ hv4)))
  rw [sk_upn _ _ n3, sk_ups, sk_ups, sk_upn _ _ (Ne.symm n4), sk_upn _ _ (Ne.symm n1)]
  exact Int32.add_comm _ _
/-- make -/
theorem sk_md (x : Int32) (d : Nat) (h0 : 0 < d) (hd : d < 2 ^ 31) : ∃ j, j < d ∧ (x &&& 255) - (x &&& 255) / nI d * nI d = nI j := by
  obtain ⟨k, hk, e⟩ := pk_andE x (m := 255) 8 (by decide)
  exact ⟨k % d, Nat.mod_lt _ h0, by rw [e, pk_rem (by omega) h0 hd]⟩
theorem sk_make {post : Int32 → St1 → Prop} {M : Nat → Nat → Int32} {u : St1} {t a b : Nat} {op x : Int32} (hQ : sk_Q M u) (ht : t < 5) (ha : a < 5) (hb : b < 5) (H : ∀ r M' v, sk_Q M' v → post r v) : wpL_make post u op (nI t) (nI a) (nI b) x := by
  obtain ⟨m, a1, a2, a3, a4, a5, a6, a7⟩ := u
  rw [wpL_make]
  refine br_c (fun _ => sk_add hQ ht ha hb (fun r v hv => H r _ v hv)) (fun _ => br_c (fun _ => sk_entry hQ ht ha hb (fun r v hv => H r _ v hv)) (fun _ => br_c (fun _ => sk_product hQ ht ha hb (fun r v hv => H r _ v hv)) (fun _ => br_c (fun _ => ⟨by decide, ?_⟩) (fun _ => br_c (fun _ => sk_transpose hQ ht ha (fun r v hv => H r _ v hv)) (fun _ => br_c (fun _ => sk_scale hQ ht ha (fun r v hv => H r _ v hv)) (fun _ => ?_))))))
  · obtain ⟨k, hk, ek⟩ := sk_md x 5 (by decide) (by decide)
    rw [show (x &&& 255) - (x &&& 255) / 5 * 5 = nI k from ek, show nI a + 8 * nI b + 64 * nI k = nI (a + 8 * b + 64 * k) by rw [show (8 : Int32) = nI 8 from rfl, show (64 : Int32) = nI 64 from rfl, pk_mul, pk_mul, nI_add, nI_add]]
    exact sk_masked hQ ht ha hb hk (fun r v hv => H r _ v hv)
  · obtain ⟨k, hk, ek⟩ := pk_andE x (m := 4095) 12 (by decide)
    rw [ek]
    exact sk_select hQ ht ha (nI_pos (by omega)) (nI_le (b := 4095) (by omega) (by decide)) (fun r v hv => H r _ v hv)
end
section
theorem sk_law147 {xs : Nat → Int32} {L kc ks : Nat} {J : Sk_J} {M : Nat → Nat → Int32} {m x4 x5 : Int32} {a1 a2 a3 a4 a5 a6 a7 : Nat → Int32} {q t a b : Nat} (hQ : sk_Q M (m, a1, a2, a3, a4, a5, a6, a7)) (ht : t < 5) (ha : a < 5) (hb : b < 5)
    (HJ : ∀ M' m' b1 b2 b3 b4 b5 b6 b7, sk_Q M' (m', b1, b2, b3, b4, b5, b6, b7) → J (nI (2 * (q + 1))) m' b1 b2 b3 b4 b5 b6 b7) : wL_law_147 (fun r => r = 1) L xs J (nI (2 * q)) x4 x5 (nI t) (nI a) (nI b) kc ks m a1 a2 a3 a4 a5 a6 a7 := by
  obtain ⟨t', ht', et'⟩ := sk_md (x5 >>> ((20 : Int32) &&& 31)) 5 (by decide) (by decide)
  obtain ⟨c, hc, ec⟩ := sk_md (x4 >>> ((3 : Int32) &&& 31)) 36 (by decide) (by decide)
  obtain ⟨t2, ht2, et2⟩ := sk_md (x5 >>> ((3 : Int32) &&& 31)) 5 (by decide) (by decide)
  obtain ⟨w2, hw2, ew2⟩ := sk_md (x5 >>> ((5 : Int32) &&& 31)) 5 (by decide) (by decide)
  unfold wL_law_147
  refine sk_slotL hQ ht (br_f (by decide) ⟨by decide, by decide, ?_⟩)
  rw [show ((x5 >>> ((20 : Int32) &&& 31)) &&& 255) - ((x5 >>> ((20 : Int32) &&& 31)) &&& 255) / 5 * 5 = nI t' from et', show ((x4 >>> ((3 : Int32) &&& 31)) &&& 255) - ((x4 >>> ((3 : Int32) &&& 31)) &&& 255) / 36 * 36 = nI c from ec]
  refine sk_products hQ ha hb ht' hc (fun M1 v1 hv1 => ?_)
  obtain ⟨m1, b1, b2, b3, b4, b5, b6, b7⟩ := v1
  refine br_f (by decide) ⟨by decide, by decide, ?_⟩
  rw [show ((x5 >>> ((3 : Int32) &&& 31)) &&& 255) - ((x5 >>> ((3 : Int32) &&& 31)) &&& 255) / 5 * 5 = nI t2 from et2, show ((x5 >>> ((5 : Int32) &&& 31)) &&& 255) - ((x5 >>> ((5 : Int32) &&& 31)) &&& 255) / 5 * 5 = nI w2 from ew2]
  refine sk_twice hv1 ha hb ht2 hw2 (fun M2 v2 hv2 => ?_)
  obtain ⟨m2, c1, c2, c3, c4, c5, c6, c7⟩ := v2
  exact br_f (by decide) (nm_r (e' := nI (2 * (q + 1))) (nI_add (2 * q) 2) (HJ _ _ _ _ _ _ _ _ _ hv2))
theorem sk_law10 {xs : Nat → Int32} {L kc ks : Nat} (hL : L ≤ 260) : ∀ (d q : Nat) (M : Nat → Nat → Int32) (m : Int32) (a1 a2 a3 a4 a5 a6 a7 : Nat → Int32), q ≤ 130 → L ≤ 2 * (q + d) + 1 → sk_Q M (m, a1, a2, a3, a4, a5, a6, a7) → wL_law_10 (fun r => r = 1) L xs kc ks (d + 1) (nI (2 * q)) m a1 a2 a3 a4 a5 a6 a7 := by
  intro d
  induction d with
  | zero =>
    intro q M m a1 a2 a3 a4 a5 a6 a7 h1 h2 hQ
    exact pk_le L (2 * q + 1) (fun _ => rfl) (fun z => absurd z (by omega)) rfl (nI_1 _)
  | succ d ih =>
    intro q M m a1 a2 a3 a4 a5 a6 a7 h1 h2 hQ
    refine pk_le L (2 * q + 1) (fun _ => rfl) (fun z => ?_) rfl (nI_1 _)
    refine ⟨vp_in_nI (by omega) (by omega), fun x3 e3 => ⟨vp_in_nI (by omega) (by omega), fun x4 e4 => ⟨by rw [nI_1]; exact vp_in_nI (by omega) (by omega), fun x5 e5 => ⟨by decide, fun x6 e6 => ⟨by decide, fun x7 e7 => ⟨by decide, fun x8 e8 => ?_⟩⟩⟩⟩⟩⟩
    obtain ⟨t, ht, et⟩ := sk_md x4 5 (by decide) (by decide)
    obtain ⟨a, ha, ea⟩ := sk_md (x4 >>> ((8 : Int32) &&& 31)) 5 (by decide) (by decide)
    obtain ⟨b, hb, eb⟩ := sk_md (x4 >>> ((16 : Int32) &&& 31)) 5 (by decide) (by decide)
    have e6' : x6 = nI t := e6.trans et
    have e7' : x7 = nI a := e7.trans ea
    have e8' : x8 = nI b := e8.trans eb
    rw [e6', e7', e8']
    refine br_c (fun _ => ⟨by decide, ?_⟩) (fun _ => ⟨by decide, by decide, ?_⟩)
    · refine sk_make hQ ht ha hb (fun r M' v hv => ?_)
      obtain ⟨m', b1, b2, b3, b4, b5, b6, b7⟩ := v
      exact sk_law147 hv ht ha hb (fun M2 m2 c1 c2 c3 c4 c5 c6 c7 hv2 => ih (q + 1) M2 m2 c1 c2 c3 c4 c5 c6 c7 (by omega) (by omega) hv2)
    · obtain ⟨i, hi, ei⟩ := sk_md x5 6 (by decide) (by decide)
      obtain ⟨j, hj, ej⟩ := sk_md (x5 >>> ((8 : Int32) &&& 31)) 6 (by decide) (by decide)
      rw [show (x5 &&& 255) - (x5 &&& 255) / 6 * 6 = nI i from ei, show ((x5 >>> ((8 : Int32) &&& 31)) &&& 255) - ((x5 >>> ((8 : Int32) &&& 31)) &&& 255) / 6 * 6 = nI j from ej]
      refine sk_put hQ ht hi hj (fun r v hv => ?_)
      obtain ⟨m', b1, b2, b3, b4, b5, b6, b7⟩ := v
      exact sk_law147 hv ht ha hb (fun M2 m2 c1 c2 c3 c4 c5 c6 c7 hv2 => ih (q + 1) M2 m2 c1 c2 c3 c4 c5 c6 c7 (by omega) (by omega) hv2)
theorem sk_start : sk_P (fun _ _ => 0) (fun _ => 0) (fun _ => 0) (fun _ => 0) := by
  intro s _
  refine ⟨fun i _ => ?_, fun c _ hn => absurd rfl hn⟩
  rw [sk_flat (c := 0) (d := 6 * i) (by omega) (fun _ _ _ => rfl)]
  rfl
theorem i_vc (xs : Nat → Int32) (L : Nat) (hL : L ≤ 260) : wpL_law (fun r => r = 1) L xs := by
  refine ⟨7, 480, by decide, by decide, by decide, by decide, by decide, by decide, by decide, by decide, by decide, by decide, by decide, by decide, by decide, by decide, by decide, by decide, 131, ?_⟩
  exact sk_law10 hL 130 0 (fun _ _ => 0) 0 _ _ _ _ _ _ _ (by omega) (by omega) sk_start
end
