section
/-! numbers, tokens, the picture -/
theorem rs_b8 : ∀ k, k < 128 → (nI k).toInt8.toInt32 = nI k := by decide +kernel
theorem rs_bm : ((-1 : Int32)).toInt8.toInt32 = -1 := by decide +kernel
theorem rs_01 : ¬ (0 : Int32) = 1 := by decide
theorem rs_10 : ¬ (1 : Int32) = 0 := by decide
/-- the number of labels of a token -/
def rs_lab (t : Int32) : Nat := if t = 0 then 0 else if t ≤ 16 then 1 else 2
theorem rs_lab2 (t : Int32) : rs_lab t ≤ 2 := by
  unfold rs_lab
  split
  · omega
  · split <;> omega
/-- how many plans are missing after the first n tokens -/
def rs_nd (t : Nat → Int32) : Nat → Nat
  | 0 => 1
  | n + 1 => rs_nd t n + rs_lab (t n) - 1
theorem rs_nd_s (t : Nat → Int32) (n : Nat) : rs_nd t (n + 1) = rs_nd t n + rs_lab (t n) - 1 := rfl
theorem rs_nd_ag {t a : Nat → Int32} {c : Nat} (h : ∀ i, i < c → a i = t i) : ∀ n, n ≤ c → rs_nd a n = rs_nd t n := by
  intro n
  induction n with
  | zero => intro _; rfl
  | succ n ih =>
    intro hn
    rw [rs_nd_s, rs_nd_s, ih (by omega), h n (by omega)]
theorem rs_nd_le (t : Nat → Int32) : ∀ n, rs_nd t n ≤ n + 1 := by
  intro n
  induction n with
  | zero => exact Nat.le_refl 1
  | succ n ih =>
    have := rs_lab2 (t n)
    rw [rs_nd_s]
    omega
theorem rs_ndI {t : Nat → Int32} {n : Nat} (h : 1 ≤ rs_nd t n) : nI (rs_nd t n) + (nI (rs_lab (t n)) - 1) = nI (rs_nd t (n + 1)) := by
  rw [rs_nd_s]
  generalize rs_lab (t n) = l
  generalize rs_nd t n = m at h
  obtain ⟨m', rfl⟩ : ∃ m', m = m' + 1 := ⟨m - 1, by omega⟩
  rw [show m' + 1 + l - 1 = m' + l by omega, nI_succ, show nI (m' + l) = nI m' + nI l from (nI_add m' l).symm]
  generalize nI m' = a
  generalize nI l = b
  grind
def rs_sn (t : Int32) : Int32 := if t ≤ 16 then (t - 1) &&& 3 else (t - 17) &&& 3
def rs_rc (t : Int32) : Int32 := if t ≤ 16 then (t - 1) >>> ((2 : Int32) &&& 31) else (t - 17) >>> ((2 : Int32) &&& 31)
/-- how many of the first x roles take part in a token -/
def rs_g (t : Int32) : Nat → Nat
  | 0 => 0
  | x + 1 => rs_g t x + (if nI x = rs_sn t ∨ nI x = rs_rc t then 1 else 0)
theorem rs_g_s (t : Int32) (x : Nat) : rs_g t (x + 1) = rs_g t x + (if nI x = rs_sn t ∨ nI x = rs_rc t then 1 else 0) := rfl
theorem rs_g4 : ∀ k, k < 33 → rs_g (nI k) 4 ≤ 2 := by decide +kernel
theorem rs_gx (t : Int32) : ∀ x, rs_g t x ≤ x := by
  intro x
  induction x with
  | zero => exact Nat.le_refl 0
  | succ x ih =>
    rw [rs_g_s]
    split <;> omega
/-- the tokens: the beginning of a plan -/
def rs_Tk (c : Nat) (t : Nat → Int32) : Prop := c ≤ 21 ∧ (∀ j, j < c → ∃ k, k ≤ 32 ∧ t j = nI k) ∧ (∀ j, j < c → 1 ≤ rs_nd t j)
/-- the table of parts -/
def rs_Tb (p : Nat) (a5 a6 : Nat → Int32) : Prop := ∀ q, 1 ≤ q → q < p → (∃ l, l ≤ 2 ∧ a5 q = nI l) ∧ (∃ f, f < p ∧ a6 (2 * q) = nI f) ∧ (∃ s, s < p ∧ a6 (2 * q + 1) = nI s)
/-- a part, or -1 -/
def rs_V (p : Nat) (x : Int32) : Prop := x = -1 ∨ ∃ k, k < p ∧ x = nI k
theorem rs_V_le {p p' : Nat} {x : Int32} (h : p ≤ p') (v : rs_V p x) : rs_V p' x := by
  rcases v with v | ⟨k, hk, e⟩
  · exact Or.inl v
  · exact Or.inr ⟨k, by omega, e⟩
theorem rs_V_b {p : Nat} {x : Int32} (h : p ≤ 128) (v : rs_V p x) : x.toInt8.toInt32 = x := by
  rcases v with v | ⟨k, hk, e⟩
  · rw [v]; exact rs_bm
  · rw [e]; exact rs_b8 k (by omega)
def rs_Kn (p : Nat) (pc : Int32) (a3 a5 a6 : Nat → Int32) : Prop := pc = nI p ∧ 1 ≤ p ∧ p ≤ 48 ∧ rs_Tb p a5 a6 ∧ ∀ x, x < 4 → rs_V p (a3 x)
/-- what a picture holds -/
def rs_OK (c : Nat) (kn pc rn : Int32) (t a3 a5 a6 a8 : Nat → Int32) : Prop :=
  rs_Tk c t ∧ (kn = 0 ∨ kn = 1) ∧ (rn = 0 ∨ rn = 1) ∧ (kn = 0 → rn = 0) ∧
  (kn = 1 → rs_nd t c = 0 ∧ ∃ p, rs_Kn p pc a3 a5 a6 ∧ (rn = 1 → ∀ x, x < 4 → ∃ k, k < p ∧ a8 x = nI k))
/-- a picture: count, known, partCount, running, sentCount, tokens (below count), a2 .. a8 -/
abbrev rs_P : Type := Nat × Int32 × Int32 × Int32 × Int32 × (Nat → Int32) × (Nat → Int32) × (Nat → Int32) × (Nat → Int32) × (Nat → Int32) × (Nat → Int32) × (Nat → Int32) × (Nat → Int32)
abbrev rs_c (P : rs_P) : Nat := P.1
abbrev rs_kn (P : rs_P) : Int32 := P.2.1
abbrev rs_pc (P : rs_P) : Int32 := P.2.2.1
abbrev rs_rn (P : rs_P) : Int32 := P.2.2.2.1
abbrev rs_sc (P : rs_P) : Int32 := P.2.2.2.2.1
abbrev rs_t (P : rs_P) : Nat → Int32 := P.2.2.2.2.2.1
abbrev rs_a2 (P : rs_P) : Nat → Int32 := P.2.2.2.2.2.2.1
abbrev rs_a3 (P : rs_P) : Nat → Int32 := P.2.2.2.2.2.2.2.1
abbrev rs_a4 (P : rs_P) : Nat → Int32 := P.2.2.2.2.2.2.2.2.1
abbrev rs_a5 (P : rs_P) : Nat → Int32 := P.2.2.2.2.2.2.2.2.2.1
abbrev rs_a6 (P : rs_P) : Nat → Int32 := P.2.2.2.2.2.2.2.2.2.2.1
abbrev rs_a7 (P : rs_P) : Nat → Int32 := P.2.2.2.2.2.2.2.2.2.2.2.1
abbrev rs_a8 (P : rs_P) : Nat → Int32 := P.2.2.2.2.2.2.2.2.2.2.2.2
abbrev rs_ok (P : rs_P) : Prop := rs_OK (rs_c P) (rs_kn P) (rs_pc P) (rs_rn P) (rs_t P) (rs_a3 P) (rs_a5 P) (rs_a6 P) (rs_a8 P)
abbrev rs_ag (P : rs_P) (a1 : Nat → Int32) : Prop := ∀ i, i < rs_c P → a1 i = rs_t P i
abbrev rs_mk (P : rs_P) (a1 : Nat → Int32) : St1 := (nI (rs_c P), rs_kn P, rs_pc P, rs_rn P, rs_sc P, a1, rs_a2 P, rs_a3 P, rs_a4 P, rs_a5 P, rs_a6 P, rs_a7 P, rs_a8 P)
/-- a method: from every state of P it ends with r in a state of P' -/
abbrev rs_op (W : (Int32 → St1 → Prop) → St1 → Prop) (P : rs_P) (r : Int32) (P' : rs_P) : Prop :=
  ∀ a1 : Nat → Int32, rs_ag P a1 → ∀ post : Int32 → St1 → Prop, (∀ b1 : Nat → Int32, rs_ag P' b1 → post r (rs_mk P' b1)) → W post (rs_mk P a1)
/-- a question: at every state of P it answers r -/
abbrev rs_qu (W : (Int32 → Prop) → St1 → Prop) (P : rs_P) (r : Int32) : Prop :=
  ∀ a1 : Nat → Int32, rs_ag P a1 → ∀ post : Int32 → Prop, post r → W post (rs_mk P a1)
/-! the smallest methods -/
theorem rs_labelsOf {post : Int32 → Prop} (t : Int32) (H : post (nI (rs_lab t))) : wpX_labelsOf post () t := by
  by_cases h0 : t = 0
  · rw [rs_lab, if_pos h0] at H
    exact br_t h0 H
  · by_cases h1 : t ≤ 16
    · rw [rs_lab, if_neg h0, if_pos h1] at H
      exact br_f h0 (br_t h1 H)
    · rw [rs_lab, if_neg h0, if_neg h1] at H
      exact br_f h0 (br_f h1 H)
theorem rs_senderOf {post : Int32 → Prop} (t : Int32) (H : post (rs_sn t)) : wpX_senderOf post () t := by
  by_cases h : t ≤ 16
  · rw [rs_sn, if_pos h] at H
    exact br_t h H
  · rw [rs_sn, if_neg h] at H
    exact br_f h H
theorem rs_receiverOf {post : Int32 → Prop} (t : Int32) (H : post (rs_rc t)) : wpX_receiverOf post () t := by
  by_cases h : t ≤ 16
  · rw [rs_rc, if_pos h] at H
    exact br_t h H
  · rw [rs_rc, if_neg h] at H
    exact br_f h H
theorem rs_isRole1 {post : Int32 → Prop} {k : Nat} (hk : k < 4) (H : post 1) : wpX_isRole post () (nI k) :=
  br_f (nI_pos (by omega)) (br_f (nI_ge (b := 4) hk (by decide)) H)
theorem rs_isRole (p0 : Int32) : (∃ k, k < 4 ∧ p0 = nI k) ∨ (∀ post : Int32 → Prop, post 0 → wpX_isRole post () p0) := by
  rcases pk_ix p0 (n := 4) (by decide) with h | h | ⟨k, hk, e⟩
  · exact Or.inr (fun post H => br_t h H)
  · refine Or.inr (fun post H => ?_)
    by_cases h0 : p0 < 0
    · exact br_t h0 H
    · exact br_f h0 (br_t h H)
  · exact Or.inl ⟨k, hk, e⟩
theorem rs_missing {post : Int32 → Prop} {kn pc rn sc : Int32} {a1 a2 a3 a4 a5 a6 a7 a8 : Nat → Int32} {c : Nat} (hc : c ≤ 21) (hn : ∀ j, j < c → 1 ≤ rs_nd a1 j) (H : post (nI (rs_nd a1 c))) :
    ∃ n, wX_missing_4 post (nI c) kn pc rn sc a1 a2 a3 a4 a5 a6 a7 a8 n 1 0 :=
  pk_loop (σ := Unit) (fun n i _ => wX_missing_4 post (nI c) kn pc rn sc a1 a2 a3 a4 a5 a6 a7 a8 n (nI (rs_nd a1 i)) (nI i)) (fun _ _ => True) c 0 () (by omega) trivial
    (fun n _ _ => pk_le c c (fun _ => H) (fun z => absurd z (by omega)))
    (fun n i _ hi _ hw => pk_le c i (fun z => absurd z (by omega)) (fun _ => ⟨pk_in i 21 (by omega), rs_labelsOf _ (nm_r (by rw [nI_clamp (by omega)]; exact rs_ndI (hn i hi)) (nm_r (nI_1 i) (hw () trivial)))⟩))
theorem rs_complete {post : Int32 → Prop} {kn pc rn sc : Int32} {t a1 a2 a3 a4 a5 a6 a7 a8 : Nat → Int32} {c : Nat} (hT : rs_Tk c t) (ha : ∀ i, i < c → a1 i = t i) (H1 : rs_nd t c = 0 → post 1) (H0 : ¬ rs_nd t c = 0 → post 0) :
    wpX_complete post (nI c, kn, pc, rn, sc, a1, a2, a3, a4, a5, a6, a7, a8) := by
  unfold wpX_complete
  dsimp only
  unfold wpX_missing
  dsimp only
  obtain ⟨hc, -, hn⟩ := hT
  refine rs_missing hc (fun j hj => by rw [rs_nd_ag ha j (by omega)]; exact hn j hj) ?_
  rw [rs_nd_ag ha c (Nat.le_refl c)]
  have hb := rs_nd_le t c
  by_cases h : rs_nd t c = 0
  · exact br_t (by rw [h]; rfl) (H1 h)
  · exact br_f (nI_ne0 (by omega) (by omega)) (H0 h)
end
section
/-! possible, send -/
def rs_D (a4 a5 : Nat → Int32) (x y r s l : Int32) : Prop :=
  ¬ x = 0 ∧ a4 x.toNatClampNeg = 1 + s ∧ ¬ y = 0 ∧ a4 y.toNatClampNeg = 5 + r ∧ ¬ a5 x.toNatClampNeg ≤ l ∧ ¬ a5 y.toNatClampNeg ≤ l
theorem rs_poss {post : Int32 → Prop} {c kn pc rn sc : Int32} {a1 a2 a3 a4 a5 a6 a7 a8 : Nat → Int32} {r s : Nat} {l : Int32} (hr : r < 4) (hs : s < 4) (hrn : ¬ rn = 0) (hl : 0 ≤ l) (h1 : vp_in (a8 r) 48) (h2 : vp_in (a8 s) 48)
    (H1 : rs_D a4 a5 (a8 r) (a8 s) (nI r) (nI s) l → post 1) (H0 : ¬ rs_D a4 a5 (a8 r) (a8 s) (nI r) (nI s) l → post 0) :
    wpX_possible post (c, kn, pc, rn, sc, a1, a2, a3, a4, a5, a6, a7, a8) (nI r) (nI s) l := by
  have N : ¬ rs_D a4 a5 (a8 r) (a8 s) (nI r) (nI s) l → wX_possible_83 post l (a8 r) (a8 s) c kn pc rn sc a1 a2 a3 a4 a5 a6 a7 a8 := fun nd => br_t rfl (H0 nd)
  have er : (nI r).toNatClampNeg = r := nI_clamp (by omega)
  have es : (nI s).toNatClampNeg = s := nI_clamp (by omega)
  refine br_f hrn (rs_isRole1 hr (br_f (by decide) (rs_isRole1 hs (br_f (by decide) (br_t hl ⟨pk_in r 4 hr, nm_r (congrArg a8 er) ⟨pk_in s 4 hs, nm_r (congrArg a8 es) ?_⟩⟩)))))
  refine br_c (fun z => N (fun d => d.1 z)) (fun z => ⟨h1, br_c (fun z2 => br_c (fun z3 => N (fun d => d.2.2.1 z3)) (fun z3 => ⟨h2, br_c (fun z4 => ?_) (fun z4 => N (fun d => z4 d.2.2.2.1))⟩)) (fun z2 => N (fun d => z2 d.2.1))⟩)
  exact br_f (by decide) ⟨h1, br_c (fun z5 => H0 (fun d => d.2.2.2.2.1 z5)) (fun z5 => ⟨h2, br_c (fun z6 => H0 (fun d => d.2.2.2.2.2 z6)) (fun z6 => H1 ⟨z, z2, z3, z4, z5, z6⟩)⟩)⟩
theorem rs_possible {P : rs_P} (h : rs_ok P) (p0 p1 p2 : Int32) :
    (∀ (a1 : Nat → Int32) (post : Int32 → Prop), post 0 → wpX_possible post (rs_mk P a1) p0 p1 p2) ∨
    ((∀ (a1 : Nat → Int32) (post : Int32 → Prop), post 1 → wpX_possible post (rs_mk P a1) p0 p1 p2) ∧ rs_rn P = 1 ∧
      ∃ r s l, r < 4 ∧ s < 4 ∧ r ≠ s ∧ l < 2 ∧ p0 = nI r ∧ p1 = nI s ∧ p2 = nI l ∧ ¬ rs_a8 P r = 0 ∧ ¬ rs_a8 P s = 0) := by
  obtain ⟨c, kn, pc, rn, sc, t, a2, a3, a4, a5, a6, a7, a8⟩ := P
  obtain ⟨hT, hkn, hrn, hkr, hK⟩ := h
  dsimp only [rs_c, rs_kn, rs_pc, rs_rn, rs_sc, rs_t, rs_a2, rs_a3, rs_a4, rs_a5, rs_a6, rs_a7, rs_a8, rs_mk, rs_ag] at hT hkn hrn hkr hK
  dsimp only [rs_c, rs_kn, rs_pc, rs_rn, rs_sc, rs_t, rs_a2, rs_a3, rs_a4, rs_a5, rs_a6, rs_a7, rs_a8, rs_mk, rs_ag]
  by_cases hr0 : rn = 0
  · exact Or.inl (fun a1 post H => br_t hr0 H)
  have hr1 : rn = 1 := hrn.resolve_left hr0
  have hk1 : kn = 1 := hkn.resolve_left (fun z => hr0 (hkr z))
  obtain ⟨hnd, p, ⟨hpc, hp1, hp48, hTb, hV⟩, hpr⟩ := hK hk1
  have hpr := hpr hr1
  rcases rs_isRole p0 with ⟨r, hr, e0⟩ | F0
  · subst e0
    rcases rs_isRole p1 with ⟨s, hs, e1⟩ | F1
    · subst e1
      by_cases hl : 0 ≤ p2
      · obtain ⟨k1, hk1, e8r⟩ := hpr r hr
        obtain ⟨k2, hk2, e8s⟩ := hpr s hs
        have v1 : vp_in (a8 r) 48 := by rw [e8r]; exact vp_in_nI (by omega) (by decide)
        have v2 : vp_in (a8 s) 48 := by rw [e8s]; exact vp_in_nI (by omega) (by decide)
        by_cases D : rs_D a4 a5 (a8 r) (a8 s) (nI r) (nI s) p2
        · refine Or.inr ⟨fun a1 post H => rs_poss hr hs hr0 hl v1 v2 (fun _ => H) (fun n => absurd D n), hr1, ?_⟩
          obtain ⟨d1, d2, d3, d4, d5, d6⟩ := D
          obtain ⟨l, hlt, el⟩ := nI_of (x := p2) (Int32.not_lt.mpr hl)
          have hrs : r ≠ s := by
            intro e
            rw [← e] at d2 d4
            rw [d2, show (1 : Int32) + nI r = nI (1 + r) from nI_add 1 r, show (5 : Int32) + nI r = nI (5 + r) from nI_add 5 r, nI_eq (by omega) (by omega)] at d4
            omega
          have hl2 : l < 2 := by
            have k0 : 1 ≤ k1 := by
              rcases Nat.eq_zero_or_pos k1 with z | z
              · rw [z] at e8r
                exact absurd e8r d1
              · exact z
            obtain ⟨⟨lb, hlb, elb⟩, -⟩ := hTb k1 k0 hk1
            rw [e8r, nI_clamp (by omega), elb, el, nI_leI (by omega) hlt] at d5
            omega
          exact ⟨r, s, l, hr, hs, hrs, hl2, rfl, rfl, el, d1, d3⟩
        · exact Or.inl (fun a1 post H => rs_poss hr hs hr0 hl v1 v2 (fun d => absurd d D) (fun _ => H))
      · exact Or.inl (fun a1 post H => br_f hr0 (rs_isRole1 hr (br_f (by decide) (rs_isRole1 hs (br_f (by decide) (br_f hl H))))))
    · exact Or.inl (fun a1 post H => br_f hr0 (rs_isRole1 hr (br_f (by decide) (F1 _ (br_t rfl H)))))
  · exact Or.inl (fun a1 post H => br_f hr0 (F0 _ (br_t rfl H)))
/-- the answer of possible, whatever it is -/
theorem rs_possQ {P : rs_P} (h : rs_ok P) (p0 p1 p2 : Int32) : ∃ r : Int32, ∀ (a1 : Nat → Int32) (post : Int32 → Prop), post r → wpX_possible post (rs_mk P a1) p0 p1 p2 := by
  rcases rs_possible h p0 p1 p2 with F | F
  · exact ⟨0, F⟩
  · exact ⟨1, F.1⟩
theorem rs_send0 {P : rs_P} {p0 p1 p2 : Int32} (F : ∀ (a1 : Nat → Int32) (post : Int32 → Prop), post 0 → wpX_possible post (rs_mk P a1) p0 p1 p2) : rs_op (fun post u => wpX_send post u p0 p1 p2) P 0 P := by
  obtain ⟨c, kn, pc, rn, sc, t, a2, a3, a4, a5, a6, a7, a8⟩ := P
  intro a1 ha post H
  dsimp only [rs_c, rs_kn, rs_pc, rs_rn, rs_sc, rs_t, rs_a2, rs_a3, rs_a4, rs_a5, rs_a6, rs_a7, rs_a8, rs_mk, rs_ag] at F H ⊢
  unfold wpX_send
  dsimp only
  exact F a1 _ (br_t rfl (H a1 ha))
/-- a send that can't be -/
theorem rs_sendN {P : rs_P} (h : rs_ok P) {p0 p1 p2 : Int32} (hb : ∀ r s l : Nat, r < 4 → s < 4 → r ≠ s → l < 2 → p0 = nI r → p1 = nI s → p2 = nI l → False) : rs_op (fun post u => wpX_send post u p0 p1 p2) P 0 P := by
  rcases rs_possible h p0 p1 p2 with F | ⟨-, -, r, s, l, hr, hs, hrs, hl, e0, e1, e2, -⟩
  · exact rs_send0 F
  · exact (hb r s l hr hs hrs hl e0 e1 e2).elim
theorem rs_send {P : rs_P} (h : rs_ok P) (p0 p1 p2 : Int32) : ∃ (r : Int32) (P' : rs_P), rs_ok P' ∧ rs_op (fun post u => wpX_send post u p0 p1 p2) P r P' := by
  rcases rs_possible h p0 p1 p2 with F | ⟨F, hr1, r, s, l, hr, hs, hrs, hl, e0, e1, e2, n1, n2⟩
  · exact ⟨0, P, h, rs_send0 F⟩
  · obtain ⟨c, kn, pc, rn, sc, t, a2, a3, a4, a5, a6, a7, a8⟩ := P
    obtain ⟨hT, hkn, hrn, hkr, hK⟩ := h
    dsimp only [rs_c, rs_kn, rs_pc, rs_rn, rs_sc, rs_t, rs_a2, rs_a3, rs_a4, rs_a5, rs_a6, rs_a7, rs_a8, rs_mk, rs_ag] at hT hkn hrn hkr hK hr1 n1 n2 F
    subst e0 e1 e2
    have hr0 : ¬ rn = 0 := by rw [hr1]; decide
    have hk1 : kn = 1 := hkn.resolve_left (fun z => hr0 (hkr z))
    obtain ⟨hnd, p, ⟨hpc, hp1, hp48, hTb, hV⟩, hpr⟩ := hK hk1
    have hpr := hpr hr1
    obtain ⟨k1, hk1', e8r⟩ := hpr r hr
    obtain ⟨k2, hk2', e8s⟩ := hpr s hs
    have fol : ∀ k, k < p → ¬ nI k = 0 → ∃ f, f < p ∧ a6 (2 * k + l) = nI f := by
      intro k hk nk
      have k0 : 1 ≤ k := by
        rcases Nat.eq_zero_or_pos k with z | z
        · rw [z] at nk
          exact absurd rfl nk
        · exact z
      obtain ⟨-, hf, hs2⟩ := hTb k k0 hk
      rcases (show l = 0 ∨ l = 1 by omega) with z | z
      · rw [z]
        exact hf
      · rw [z]
        exact hs2
    obtain ⟨f1, hf1, ef1⟩ := fol k1 hk1' (by rw [← e8r]; exact n1)
    obtain ⟨f2, hf2, ef2⟩ := fol k2 hk2' (by rw [← e8s]; exact n2)
    have er : (nI r).toNatClampNeg = r := nI_clamp (by omega)
    have es : (nI s).toNatClampNeg = s := nI_clamp (by omega)
    have ix : ∀ k, k < p → (2 : Int32) * nI k + nI l = nI (2 * k + l) := by
      intro k _
      rw [show (2 : Int32) * nI k = nI (2 * k) from pk_mul 2 k, nI_add]
    have nb : ∀ f, f < p → vp_nar .byte (nI f) = nI f := by
      intro f hf
      rw [vp_nar_byte]
      exact rs_b8 f (by omega)
    refine ⟨1, (c, kn, pc, rn, sc + 1, t, a2, a3, a4, a5, a6, a7, upd (upd a8 r (nI f1)) s (nI f2)), ⟨hT, hkn, hrn, hkr, fun _ => ⟨hnd, p, ⟨hpc, hp1, hp48, hTb, hV⟩, fun _ x hx => ?_⟩⟩, fun a1 ha post H => ?_⟩
    · show ∃ k, k < p ∧ upd (upd a8 r (nI f1)) s (nI f2) x = nI k
      by_cases ex : x = s
      · rw [ex, pk_us]
        exact ⟨f2, hf2, rfl⟩
      · rw [pk_un ex]
        by_cases ex2 : x = r
        · rw [ex2, pk_us]
          exact ⟨f1, hf1, rfl⟩
        · rw [pk_un ex2]
          exact hpr x hx
    · dsimp only [rs_c, rs_kn, rs_pc, rs_rn, rs_sc, rs_t, rs_a2, rs_a3, rs_a4, rs_a5, rs_a6, rs_a7, rs_a8, rs_mk, rs_ag] at ha H ⊢
      unfold wpX_send
      dsimp only
      have E1 : upd a8 (nI r).toNatClampNeg (vp_nar .byte (a6 ((2 * (a8 (nI r).toNatClampNeg)) + nI l).toNatClampNeg)) = upd a8 r (nI f1) := by
        rw [er, e8r, ix k1 hk1', nI_clamp (by omega), ef1, nb f1 hf1]
      have q8 : upd a8 r (nI f1) (nI s).toNatClampNeg = nI k2 := by
        rw [es, pk_un (Ne.symm hrs), e8s]
      have E2 : upd (upd a8 r (nI f1)) (nI s).toNatClampNeg (vp_nar .byte (a6 ((2 * (upd a8 r (nI f1) (nI s).toNatClampNeg)) + nI l).toNatClampNeg)) = upd (upd a8 r (nI f1)) s (nI f2) := by
        rw [q8, es, ix k2 hk2', nI_clamp (by omega), ef2, nb f2 hf2]
      refine F a1 _ (br_f (by decide) ⟨pk_in r 4 hr, ?_, pk_in r 4 hr, nm_r E1 ⟨pk_in s 4 hs, ?_, pk_in s 4 hs, nm_r E2 (nm_e (H a1 ha))⟩⟩)
      · rw [er, e8r, ix k1 hk1']
        exact vp_in_nI (by omega) (by decide)
      · rw [q8, ix k2 hk2']
        exact vp_in_nI (by omega) (by decide)
end
section
/-! isToken, write, rub -/
theorem rs_tok16 (x0 z0 : Int32) : (∃ k, k ≤ 32 ∧ x0 = nI k ∧ ∀ post : Int32 → Prop, post 1 → wX_isToken_16 post x0 z0) ∨ (∀ post : Int32 → Prop, post 0 → wX_isToken_16 post x0 z0) := by
  by_cases h0 : x0 = 0
  · exact Or.inl ⟨0, by omega, h0, fun post H => br_t h0 H⟩
  by_cases h1 : x0 < 1
  · exact Or.inr (fun post H => br_f h0 (br_t h1 H))
  by_cases h2 : 32 < x0
  · exact Or.inr (fun post H => br_f h0 (br_f h1 (br_t h2 H)))
  by_cases h3 : (z0 &&& 3) = (z0 >>> ((2 : Int32) &&& 31))
  · exact Or.inr (fun post H => br_f h0 (br_f h1 (br_f h2 (br_t h3 H))))
  have h4 : ¬ x0 < 0 := fun z => h1 (by
    rw [Int32.lt_iff_toInt_lt] at z ⊢
    have e0 : (0 : Int32).toInt = 0 := by decide
    have e1 : (1 : Int32).toInt = 1 := by decide
    omega)
  obtain ⟨k, hk, e⟩ := nI_of2 (x := x0) (M := 32) (n := 32) (by decide) h4 (Int32.not_lt.mp h2)
  exact Or.inl ⟨k, hk, e, fun post H => br_f h0 (br_f h1 (br_f h2 (br_f h3 H)))⟩
theorem rs_isToken (p0 : Int32) : (∃ k, k ≤ 32 ∧ p0 = nI k ∧ ∀ post : Int32 → Prop, post 1 → wpX_isToken post () p0) ∨ (∀ post : Int32 → Prop, post 0 → wpX_isToken post () p0) := by
  by_cases h : p0 ≤ 16
  · rcases rs_tok16 p0 (p0 - 1) with ⟨k, hk, e, F⟩ | F
    · exact Or.inl ⟨k, hk, e, fun post H => br_t h (F post H)⟩
    · exact Or.inr (fun post H => br_t h (F post H))
  · rcases rs_tok16 p0 (p0 - 17) with ⟨k, hk, e, F⟩ | F
    · exact Or.inl ⟨k, hk, e, fun post H => br_f h (F post H)⟩
    · exact Or.inr (fun post H => br_f h (F post H))
theorem rs_t0 (post : Int32 → Prop) (H : post 1) : wpX_isToken post () (nI 0) :=
  br_t (by decide) (br_t (by decide) H)
theorem rs_t2 (post : Int32 → Prop) (H : post 1) : wpX_isToken post () (nI 2) :=
  br_t (by decide) (br_f (by decide) (br_f (by decide) (br_f (by decide) (br_f (by decide) H))))
theorem rs_t18 (post : Int32 → Prop) (H : post 1) : wpX_isToken post () (nI 18) :=
  br_f (by decide) (br_f (by decide) (br_f (by decide) (br_f (by decide) (br_f (by decide) H))))
theorem rs_tbig {j : Nat} (h1 : 33 ≤ j) (h2 : j < 2 ^ 31) (post : Int32 → Prop) (H : post 0) : wpX_isToken post () (nI j) :=
  br_f (nI_ge (a := 16) (b := j) (by omega) h2) (br_f (nI_ne0 (by omega) h2) (br_f (nI_nlt (b := 1) (by omega) h2) (br_t (nI_lt (a := 32) (by omega) h2) H)))
theorem rs_tself {r : Nat} (hr : r < 4) (post : Int32 → Prop) (H : post 0) : wpX_isToken post () (nI (1 + 5 * r)) := by
  rcases (show r = 0 ∨ r = 1 ∨ r = 2 ∨ r = 3 by omega) with z | z | z | z <;> subst z
  · exact br_t (by decide) (br_f (by decide) (br_f (by decide) (br_f (by decide) (br_t (by decide) H))))
  · exact br_t (by decide) (br_f (by decide) (br_f (by decide) (br_f (by decide) (br_t (by decide) H))))
  · exact br_t (by decide) (br_f (by decide) (br_f (by decide) (br_f (by decide) (br_t (by decide) H))))
  · exact br_t (by decide) (br_f (by decide) (br_f (by decide) (br_f (by decide) (br_t (by decide) H))))
theorem rs_writeN {P : rs_P} {p0 : Int32} (F : ∀ post : Int32 → Prop, post 0 → wpX_isToken post () p0) : rs_op (fun post u => wpX_write post u p0) P (-1) P := by
  obtain ⟨c, kn, pc, rn, sc, t, a2, a3, a4, a5, a6, a7, a8⟩ := P
  intro a1 ha post H
  dsimp only [rs_c, rs_kn, rs_pc, rs_rn, rs_sc, rs_t, rs_a2, rs_a3, rs_a4, rs_a5, rs_a6, rs_a7, rs_a8, rs_mk, rs_ag] at ha H ⊢
  unfold wpX_write
  dsimp only
  exact F _ (br_t rfl (H a1 ha))
theorem rs_writeF {P : rs_P} (h : rs_ok P) {p0 : Int32} (F : ∀ post : Int32 → Prop, post 1 → wpX_isToken post () p0) (hf : rs_nd (rs_t P) (rs_c P) = 0 ∨ ¬ rs_c P < 21) : rs_op (fun post u => wpX_write post u p0) P (-2) P := by
  obtain ⟨c, kn, pc, rn, sc, t, a2, a3, a4, a5, a6, a7, a8⟩ := P
  obtain ⟨hT, -⟩ := h
  intro a1 ha post H
  dsimp only [rs_c, rs_kn, rs_pc, rs_rn, rs_sc, rs_t, rs_a2, rs_a3, rs_a4, rs_a5, rs_a6, rs_a7, rs_a8, rs_mk, rs_ag] at hT hf ha H ⊢
  unfold wpX_write
  dsimp only
  refine F _ (br_f (by decide) (rs_complete hT ha (fun _ => br_f (by decide) (H a1 ha)) (fun z => br_t rfl ?_)))
  have hc := hT.1
  exact br_f (nI_nlt (b := 21) (by have := hf.resolve_left z; omega) (by omega)) (H a1 ha)
abbrev rs_wr (P : rs_P) (x : Int32) : rs_P := (rs_c P + 1, 0, rs_pc P, 0, rs_sc P, upd (rs_t P) (rs_c P) x, rs_a2 P, rs_a3 P, rs_a4 P, rs_a5 P, rs_a6 P, rs_a7 P, rs_a8 P)
theorem rs_wr_ok {P : rs_P} (h : rs_ok P) {k : Nat} (hk : k ≤ 32) (hn : ¬ rs_nd (rs_t P) (rs_c P) = 0) (hc : rs_c P < 21) : rs_ok (rs_wr P (nI k)) := by
  obtain ⟨c, kn, pc, rn, sc, t, a2, a3, a4, a5, a6, a7, a8⟩ := P
  obtain ⟨hT, -⟩ := h
  dsimp only [rs_c, rs_kn, rs_pc, rs_rn, rs_sc, rs_t, rs_a2, rs_a3, rs_a4, rs_a5, rs_a6, rs_a7, rs_a8, rs_mk, rs_ag] at hT hn hc
  obtain ⟨-, h1, h2⟩ := hT
  have ag : ∀ i, i < c → upd t c (nI k) i = t i := fun i hi => pk_un (by omega)
  refine ⟨⟨?_, fun j hj => ?_, fun j hj => ?_⟩, Or.inl rfl, Or.inl rfl, fun _ => rfl, fun z => absurd z rs_01⟩
  · show c + 1 ≤ 21
    omega
  · show ∃ k', k' ≤ 32 ∧ upd t c (nI k) j = nI k'
    by_cases e : j = c
    · rw [e, pk_us]
      exact ⟨k, hk, rfl⟩
    · rw [pk_un e]
      exact h1 j (by have : j < c + 1 := hj; omega)
  · show 1 ≤ rs_nd (upd t c (nI k)) j
    have hj' : j < c + 1 := hj
    rw [rs_nd_ag ag j (by omega)]
    by_cases e : j = c
    · rw [e]
      omega
    · exact h2 j (by omega)
theorem rs_write1 {P : rs_P} (h : rs_ok P) {k : Nat} (hk : k ≤ 32) (F : ∀ post : Int32 → Prop, post 1 → wpX_isToken post () (nI k)) (hn : ¬ rs_nd (rs_t P) (rs_c P) = 0) (hc : rs_c P < 21) :
    rs_op (fun post u => wpX_write post u (nI k)) P (nI (rs_c P + 1)) (rs_wr P (nI k)) := by
  obtain ⟨c, kn, pc, rn, sc, t, a2, a3, a4, a5, a6, a7, a8⟩ := P
  obtain ⟨hT, -⟩ := h
  intro a1 ha post H
  dsimp only [rs_c, rs_kn, rs_pc, rs_rn, rs_sc, rs_t, rs_a2, rs_a3, rs_a4, rs_a5, rs_a6, rs_a7, rs_a8, rs_mk, rs_ag] at hT hn hc ha H ⊢
  unfold wpX_write
  dsimp only
  refine F _ (br_f (by decide) (rs_complete hT ha (fun z => absurd z hn) (fun _ => br_t rfl (br_t (nI_lt (b := 21) hc (by decide)) ⟨pk_in c 21 hc, nm_r (e' := upd a1 c (nI k)) (by rw [nI_clamp (by omega), rs_b8 k (by omega)]) (nm_r (nI_1 c) ?_)⟩))))
  unfold wpX_change
  dsimp only
  refine H _ (fun i hi => ?_)
  by_cases e : i = c
  · rw [e, pk_us, pk_us]
  · rw [pk_un e, pk_un e]
    exact ha i (by omega)
theorem rs_write {P : rs_P} (h : rs_ok P) (p0 : Int32) : ∃ (r : Int32) (P' : rs_P), rs_ok P' ∧ rs_op (fun post u => wpX_write post u p0) P r P' := by
  rcases rs_isToken p0 with ⟨k, hk, e, F⟩ | F
  · subst e
    by_cases hn : rs_nd (rs_t P) (rs_c P) = 0
    · exact ⟨-2, P, h, rs_writeF h F (Or.inl hn)⟩
    · by_cases hc : rs_c P < 21
      · exact ⟨_, _, rs_wr_ok h hk hn hc, rs_write1 h hk F hn hc⟩
      · exact ⟨-2, P, h, rs_writeF h F (Or.inr hc)⟩
  · exact ⟨-1, P, h, rs_writeN F⟩
/-! rub -/
abbrev rs_rb (c : Nat) (P : rs_P) : rs_P := (c, 0, rs_pc P, 0, rs_sc P, rs_t P, rs_a2 P, rs_a3 P, rs_a4 P, rs_a5 P, rs_a6 P, rs_a7 P, rs_a8 P)
theorem rs_rub1 {P : rs_P} {c : Nat} (e : rs_c P = c + 1) (hc : c < 21) : rs_op wpX_rub P (rs_t P c) (rs_rb c P) := by
  obtain ⟨c', kn, pc, rn, sc, t, a2, a3, a4, a5, a6, a7, a8⟩ := P
  dsimp only [rs_c, rs_kn, rs_pc, rs_rn, rs_sc, rs_t, rs_a2, rs_a3, rs_a4, rs_a5, rs_a6, rs_a7, rs_a8, rs_mk, rs_ag] at e
  subst e
  intro a1 ha post H
  dsimp only [rs_c, rs_kn, rs_pc, rs_rn, rs_sc, rs_t, rs_a2, rs_a3, rs_a4, rs_a5, rs_a6, rs_a7, rs_a8, rs_mk, rs_ag] at ha H ⊢
  unfold wpX_rub
  dsimp only
  refine br_f (nI_ne0 (by omega) (by omega)) (nm_r (nI_pred c) ?_)
  unfold wpX_change
  dsimp only
  refine ⟨pk_in c 21 hc, ?_⟩
  rw [nI_clamp (by omega), ha c (by omega)]
  exact H a1 (fun i hi => ha i (by omega))
theorem rs_rub {P : rs_P} (h : rs_ok P) : ∃ (r : Int32) (P' : rs_P), rs_ok P' ∧ rs_op wpX_rub P r P' := by
  rcases Nat.eq_zero_or_pos (rs_c P) with z | z
  · refine ⟨-1, P, h, ?_⟩
    obtain ⟨c, kn, pc, rn, sc, t, a2, a3, a4, a5, a6, a7, a8⟩ := P
    dsimp only [rs_c, rs_kn, rs_pc, rs_rn, rs_sc, rs_t, rs_a2, rs_a3, rs_a4, rs_a5, rs_a6, rs_a7, rs_a8, rs_mk, rs_ag] at z
    subst z
    intro a1 ha post H
    exact br_t rfl (H a1 ha)
  · obtain ⟨c, e⟩ : ∃ c, rs_c P = c + 1 := ⟨rs_c P - 1, by omega⟩
    have hT := h.1
    refine ⟨_, rs_rb c P, ⟨⟨?_, fun j hj => hT.2.1 j ?_, fun j hj => hT.2.2 j ?_⟩, Or.inl rfl, Or.inl rfl, fun _ => rfl, fun z => absurd z rs_01⟩, rs_rub1 e ?_⟩
    · show c ≤ 21
      have := hT.1
      omega
    · have hj' : j < c := hj
      omega
    · have hj' : j < c := hj
      omega
    · have := hT.1
      omega
end
section
/-! partFor, project -/
theorem rs_nm1 {f : Nat} (h : f < 2 ^ 31) : ¬ nI f = -1 := by
  intro e
  have a := nI_toInt h
  rw [e, show (-1 : Int32).toInt = -1 from by decide] at a
  omega
theorem rs_pf3 {p l f s : Nat} {a4 a5 a6 a7 : Nat → Int32} {d : Int32} (hp : p < 48) (hT : rs_Tb p a5 a6) (hl : l ≤ 2) (hf : f < p) (hs : s < p) :
    ∀ m i, i + m = p → 1 ≤ i → ∃ (r p' : Nat) (b4 b5 b6 b7 : Nat → Int32), r < p' ∧ p ≤ p' ∧ p' ≤ p + 1 ∧ rs_Tb p' b5 b6 ∧
      ∀ (c kn rn sc : Int32) (a1 a2 a3 a8 : Nat → Int32) (post : Int32 → St1 → Prop), post (nI r) (c, kn, nI p', rn, sc, a1, a2, a3, b4, b5, b6, b7, a8) →
        wX_partFor_3 post d (nI l) (nI f) (nI s) c kn (nI p) rn sc a1 a2 a3 a4 a5 a6 a7 a8 (m + 1) (nI i) := by
  intro m
  induction m with
  | zero =>
    intro i hi _
    have hi : i = p := by omega
    subst hi
    refine ⟨i, i + 1, upd a4 i d.toInt8.toInt32, upd a5 i (nI l), upd (upd a6 (2 * i) (nI f)) (2 * i + 1) (nI s), upd a7 i (1 + a7 f + a7 s), by omega, by omega, by omega, ?_, ?_⟩
    · intro q hq1 hq
      by_cases e : q = i
      · subst e
        refine ⟨⟨l, hl, pk_us⟩, ⟨f, by omega, ?_⟩, ⟨s, by omega, pk_us⟩⟩
        rw [pk_un (by omega), pk_us]
      · obtain ⟨⟨l', hl', el⟩, ⟨f', hf', ef⟩, ⟨s', hs', es⟩⟩ := hT q hq1 (by omega)
        refine ⟨⟨l', hl', ?_⟩, ⟨f', by omega, ?_⟩, ⟨s', by omega, ?_⟩⟩
        · rw [pk_un e, el]
        · rw [pk_un (by omega), pk_un (by omega), ef]
        · rw [pk_un (by omega), pk_un (by omega), es]
    · intro c kn rn sc a1 a2 a3 a8 post H
      have e2 : (2 : Int32) * nI i = nI (2 * i) := pk_mul 2 i
      have e2' : (2 : Int32) * nI i + 1 = nI (2 * i + 1) := by rw [e2, nI_1]
      have ei : (nI i).toNatClampNeg = i := nI_clamp (by omega)
      have ef : (nI f).toNatClampNeg = f := nI_clamp (by omega)
      have es : (nI s).toNatClampNeg = s := nI_clamp (by omega)
      refine br_t (nI_le (Nat.le_refl i) (by omega)) ⟨pk_in i 48 hp, nm_r (e' := upd a4 i d.toInt8.toInt32) (by rw [ei]) ⟨pk_in i 48 hp, nm_r (e' := upd a5 i (nI l)) (by rw [ei, rs_b8 l (by omega)]) ⟨pk_in (2 * i) 96 (by omega) e2, nm_r (e' := upd a6 (2 * i) (nI f)) (by rw [e2, nI_clamp (by omega), rs_b8 f (by omega)]) ⟨pk_in (2 * i + 1) 96 (by omega) e2', nm_r (e' := upd (upd a6 (2 * i) (nI f)) (2 * i + 1) (nI s)) (by rw [e2', nI_clamp (by omega), rs_b8 s (by omega)]) ⟨pk_in f 48 (by omega), pk_in s 48 (by omega), pk_in i 48 hp, nm_r (e' := upd a7 i (1 + a7 f + a7 s)) (by rw [ei, ef, es]) (nm_r (nI_1 i) H)⟩⟩⟩⟩⟩
  | succ m ih =>
    intro i hi h1
    have e2 : (2 : Int32) * nI i = nI (2 * i) := pk_mul 2 i
    have e2' : (2 : Int32) * nI i + 1 = nI (2 * i + 1) := by rw [e2, nI_1]
    have ei : (nI i).toNatClampNeg = i := nI_clamp (by omega)
    have q2 : ((2 : Int32) * nI i).toNatClampNeg = 2 * i := by rw [e2]; exact nI_clamp (by omega)
    have q2' : ((2 : Int32) * nI i + 1).toNatClampNeg = 2 * i + 1 := by rw [e2']; exact nI_clamp (by omega)
    by_cases D : a4 i = d ∧ a5 i = nI l ∧ a6 (2 * i) = nI f ∧ a6 (2 * i + 1) = nI s
    · refine ⟨i, p, a4, a5, a6, a7, by omega, by omega, by omega, hT, fun c kn rn sc a1 a2 a3 a8 post H => ?_⟩
      obtain ⟨d1, d2, d3, d4⟩ := D
      exact br_f (nI_ge (by omega) (by omega)) ⟨pk_in i 48 (by omega), br_t (by rw [ei]; exact d1) ⟨pk_in i 48 (by omega), br_t (by rw [ei]; exact d2) (br_f (by decide) ⟨pk_in (2 * i) 96 (by omega) e2, br_t (by rw [q2]; exact d3) ⟨pk_in (2 * i + 1) 96 (by omega) e2', br_t (by rw [q2']; exact d4) H⟩⟩)⟩⟩
    · obtain ⟨r, p', b4, b5, b6, b7, hr, hp', hp'', hT', F⟩ := ih (i + 1) (by omega) (by omega)
      refine ⟨r, p', b4, b5, b6, b7, hr, hp', hp'', hT', fun c kn rn sc a1 a2 a3 a8 post H => ?_⟩
      have J := F c kn rn sc a1 a2 a3 a8 post H
      have N : wX_partFor_38 post (wX_partFor_3 post d (nI l) (nI f) (nI s) c kn (nI p) rn sc a1 a2 a3 a4 a5 a6 a7 a8 (m + 1)) d (nI l) (nI f) (nI s) (nI i) c kn (nI p) rn sc a1 a2 a3 a4 a5 a6 a7 a8 := br_t rfl (nm_r (nI_1 i) J)
      exact br_f (nI_ge (by omega) (by omega)) ⟨pk_in i 48 (by omega), br_c (fun d1 => ⟨pk_in i 48 (by omega), br_c (fun d2 => br_f (by decide) ⟨pk_in (2 * i) 96 (by omega) e2, br_c (fun d3 => ⟨pk_in (2 * i + 1) 96 (by omega) e2', br_f (fun d4 => D ⟨ei ▸ d1, ei ▸ d2, q2 ▸ d3, q2' ▸ d4⟩) (nm_r (nI_1 i) J)⟩) (fun _ => nm_r (nI_1 i) J)⟩) (fun _ => N)⟩) (fun _ => N)⟩
theorem rs_partFor {p l f s : Nat} {a4 a5 a6 a7 : Nat → Int32} (d : Int32) (hp1 : 1 ≤ p) (hp : p < 48) (hT : rs_Tb p a5 a6) (hl : l ≤ 2) (hf : f < p) (hs : s < p) :
    ∃ (r p' : Nat) (b4 b5 b6 b7 : Nat → Int32), r < p' ∧ p ≤ p' ∧ p' ≤ p + 1 ∧ rs_Tb p' b5 b6 ∧
      ∀ (c kn rn sc : Int32) (a1 a2 a3 a8 : Nat → Int32) (post : Int32 → St1 → Prop), post (nI r) (c, kn, nI p', rn, sc, a1, a2, a3, b4, b5, b6, b7, a8) →
        wpX_partFor post (c, kn, nI p, rn, sc, a1, a2, a3, a4, a5, a6, a7, a8) d (nI l) (nI f) (nI s) := by
  obtain ⟨r, p', b4, b5, b6, b7, h1, h2, h3, h4, F⟩ := rs_pf3 (a4 := a4) (a7 := a7) (d := d) hp hT hl hf hs (p - 1) 1 (by omega) (by omega)
  refine ⟨r, p', b4, b5, b6, b7, h1, h2, h3, h4, fun c kn rn sc a1 a2 a3 a8 post H => ?_⟩
  unfold wpX_partFor
  dsimp only
  exact ⟨p - 1 + 1, F c kn rn sc a1 a2 a3 a8 post H⟩
theorem rs_pj50 {p i x l : Nat} {tk fi se : Int32} {a4 a5 a6 a7 : Nat → Int32} (hp1 : 1 ≤ p) (hp : p < 48) (hT : rs_Tb p a5 a6) (hi : i < 21) (hl : l ≤ 2) (vf : rs_V p fi) (vs : rs_V p se) :
    ∃ (r : Int32) (p' : Nat) (b4 b5 b6 b7 : Nat → Int32), rs_V p' r ∧ p ≤ p' ∧ p' ≤ p + (if nI x = rs_sn tk ∨ nI x = rs_rc tk then 1 else 0) ∧ rs_Tb p' b5 b6 ∧
      ∀ (c kn rn sc : Int32) (a1 a2 a3 a8 : Nat → Int32) (post : Int32 → St1 → Prop), a1 i = tk → post r (c, kn, nI p', rn, sc, a1, a2, a3, b4, b5, b6, b7, a8) →
        wX_project_50 post (nI i) (nI l) (nI x) fi se c kn (nI p) rn sc a1 a2 a3 a4 a5 a6 a7 a8 := by
  have ei : (nI i).toNatClampNeg = i := nI_clamp (by omega)
  by_cases hf1 : fi = -1
  · exact ⟨-1, p, a4, a5, a6, a7, Or.inl rfl, Nat.le_refl p, Nat.le_add_right _ _, hT, fun c kn rn sc a1 a2 a3 a8 post _ H => br_t hf1 H⟩
  by_cases hs1 : se = -1
  · exact ⟨-1, p, a4, a5, a6, a7, Or.inl rfl, Nat.le_refl p, Nat.le_add_right _ _, hT, fun c kn rn sc a1 a2 a3 a8 post _ H => br_f hf1 (br_t hs1 H)⟩
  obtain ⟨f, hf, ef⟩ := vf.resolve_left hf1
  obtain ⟨s, hs, es⟩ := vs.resolve_left hs1
  subst ef es
  by_cases c1 : nI x = rs_sn tk
  · obtain ⟨r, p', b4, b5, b6, b7, h1, h2, h3, h4, F⟩ := rs_partFor (a4 := a4) (a7 := a7) (1 + rs_rc tk) hp1 hp hT hl hf hs
    refine ⟨nI r, p', b4, b5, b6, b7, Or.inr ⟨r, h1, rfl⟩, h2, by rw [if_pos (Or.inl c1)]; exact h3, h4, fun c kn rn sc a1 a2 a3 a8 post et H => ?_⟩
    refine br_f hf1 (br_f hs1 ⟨pk_in i 21 hi, ?_⟩)
    rw [ei, et]
    exact rs_senderOf _ ⟨pk_in i 21 hi, rs_receiverOf _ (br_t c1 (F c kn rn sc a1 a2 a3 a8 _ H))⟩
  by_cases c2 : nI x = rs_rc tk
  · obtain ⟨r, p', b4, b5, b6, b7, h1, h2, h3, h4, F⟩ := rs_partFor (a4 := a4) (a7 := a7) (5 + rs_sn tk) hp1 hp hT hl hf hs
    refine ⟨nI r, p', b4, b5, b6, b7, Or.inr ⟨r, h1, rfl⟩, h2, by rw [if_pos (Or.inr c2)]; exact h3, h4, fun c kn rn sc a1 a2 a3 a8 post et H => ?_⟩
    refine br_f hf1 (br_f hs1 ⟨pk_in i 21 hi, ?_⟩)
    rw [ei, et]
    exact rs_senderOf _ ⟨pk_in i 21 hi, rs_receiverOf _ (br_f c1 (br_t c2 (F c kn rn sc a1 a2 a3 a8 _ H)))⟩
  by_cases c3 : nI l = 1 ∨ nI f = nI s
  · refine ⟨nI f, p, a4, a5, a6, a7, Or.inr ⟨f, hf, rfl⟩, Nat.le_refl p, Nat.le_add_right _ _, hT, fun c kn rn sc a1 a2 a3 a8 post et H => ?_⟩
    refine br_f hf1 (br_f hs1 ⟨pk_in i 21 hi, ?_⟩)
    rw [ei, et]
    exact rs_senderOf _ ⟨pk_in i 21 hi, rs_receiverOf _ (br_f c1 (br_f c2 (br_c (fun _ => H) (fun z => br_t (c3.resolve_left z) H))))⟩
  · refine ⟨-1, p, a4, a5, a6, a7, Or.inl rfl, Nat.le_refl p, Nat.le_add_right _ _, hT, fun c kn rn sc a1 a2 a3 a8 post et H => ?_⟩
    refine br_f hf1 (br_f hs1 ⟨pk_in i 21 hi, ?_⟩)
    rw [ei, et]
    exact rs_senderOf _ ⟨pk_in i 21 hi, rs_receiverOf _ (br_f c1 (br_f c2 (br_f (fun z => c3 (Or.inl z)) (br_f (fun z => c3 (Or.inr z)) H))))⟩
theorem rs_project {p i x l c : Nat} {tk : Int32} {a2 a3 a4 a5 a6 a7 : Nat → Int32} (hp1 : 1 ≤ p) (hp : p < 48) (hT : rs_Tb p a5 a6) (hx : x < 4) (hc : c ≤ 21) (hi : i < c) (hl : l ≤ 2)
    (hA : 1 ≤ l → i + 1 < c ∧ rs_V p (a3 ((i + 1) * 4 + x)))
    (hB : 2 ≤ l → ∃ s1, i + 1 + s1 < c ∧ a2 (i + 1) = nI s1 ∧ rs_V p (a3 ((i + 1 + s1) * 4 + x))) :
    ∃ (r : Int32) (p' : Nat) (b4 b5 b6 b7 : Nat → Int32), rs_V p' r ∧ p ≤ p' ∧ p' ≤ p + (if nI x = rs_sn tk ∨ nI x = rs_rc tk then 1 else 0) ∧ rs_Tb p' b5 b6 ∧
      ∀ (cc kn rn sc : Int32) (a1 a8 : Nat → Int32) (post : Int32 → St1 → Prop), a1 i = tk → post r (cc, kn, nI p', rn, sc, a1, a2, a3, b4, b5, b6, b7, a8) →
        wpX_project post (cc, kn, nI p, rn, sc, a1, a2, a3, a4, a5, a6, a7, a8) (nI i) (nI l) (nI x) := by
  rcases (show l = 0 ∨ l = 1 ∨ l = 2 by omega) with z | z | z
  · subst z
    exact ⟨0, p, a4, a5, a6, a7, Or.inr ⟨0, by omega, rfl⟩, Nat.le_refl p, Nat.le_add_right _ _, hT, fun cc kn rn sc a1 a8 post _ H => br_t rfl H⟩
  · subst z
    obtain ⟨hi1, v1⟩ := hA (by omega)
    have E : (nI i + 1) * 4 + nI x = nI ((i + 1) * 4 + x) := by
      rw [nI_1, show nI (i + 1) * 4 = nI ((i + 1) * 4) from pk_mul _ 4, nI_add]
    have E2 : a3 ((nI i + 1) * 4 + nI x).toNatClampNeg = a3 ((i + 1) * 4 + x) := by
      rw [E, nI_clamp (by omega)]
    obtain ⟨r, p', b4, b5, b6, b7, h1, h2, h3, h4, F⟩ := rs_pj50 (tk := tk) (x := x) (a4 := a4) (a7 := a7) hp1 hp hT (show i < 21 by omega) (show 1 ≤ 2 by omega) v1 (show rs_V p 0 from Or.inr ⟨0, by omega, rfl⟩)
    exact ⟨r, p', b4, b5, b6, b7, h1, h2, h3, h4, fun cc kn rn sc a1 a8 post et H => br_f (by decide) ⟨pk_in ((i + 1) * 4 + x) 84 (by omega) E, nm_r E2 (br_t (by decide) (F cc kn rn sc a1 a2 a3 a8 post et H))⟩⟩
  · subst z
    obtain ⟨hi1, v1⟩ := hA (by omega)
    obtain ⟨s1, hs1, es1, v2⟩ := hB (by omega)
    have E : (nI i + 1) * 4 + nI x = nI ((i + 1) * 4 + x) := by
      rw [nI_1, show nI (i + 1) * 4 = nI ((i + 1) * 4) from pk_mul _ 4, nI_add]
    have E2 : a3 ((nI i + 1) * 4 + nI x).toNatClampNeg = a3 ((i + 1) * 4 + x) := by
      rw [E, nI_clamp (by omega)]
    have E3 : ((nI i + 1) + a2 (nI i + 1).toNatClampNeg) * 4 + nI x = nI ((i + 1 + s1) * 4 + x) := by
      rw [nI_1, nI_clamp (by omega), es1, nI_add, show nI (i + 1 + s1) * 4 = nI ((i + 1 + s1) * 4) from pk_mul _ 4, nI_add]
    obtain ⟨r, p', b4, b5, b6, b7, h1, h2, h3, h4, F⟩ := rs_pj50 (tk := tk) (x := x) (a4 := a4) (a7 := a7) hp1 hp hT (show i < 21 by omega) (show 2 ≤ 2 by omega) v1 v2
    refine ⟨r, p', b4, b5, b6, b7, h1, h2, h3, h4, fun cc kn rn sc a1 a8 post et H => br_f (by decide) ⟨pk_in ((i + 1) * 4 + x) 84 (by omega) E, nm_r E2 (br_f (by decide) ⟨pk_in (i + 1) 21 (by omega) (nI_1 i), pk_in ((i + 1 + s1) * 4 + x) 84 (by omega) E3, ?_⟩)⟩⟩
    rw [E3, nI_clamp (show (i + 1 + s1) * 4 + x < 2 ^ 31 by omega)]
    exact F cc kn rn sc a1 a2 a3 a8 post et H
end
section
/-! learn -/
abbrev rs_J : Type := Int32 → Int32 → Int32 → Int32 → Int32 → Int32 → (Nat → Int32) → (Nat → Int32) → (Nat → Int32) → (Nat → Int32) → (Nat → Int32) → (Nat → Int32) → (Nat → Int32) → (Nat → Int32) → Prop
theorem rs_ln103 {c i l p0 : Nat} {tk : Int32} {a2 : Nat → Int32} (hc : c ≤ 21) (hi : i < c) (hl : l ≤ 2) (hp0 : p0 ≤ 43) (hA : 1 ≤ l → i + 1 < c) (hB : 2 ≤ l → ∃ s1, i + 1 + s1 < c ∧ a2 (i + 1) = nI s1) :
    ∀ (m x p : Nat) (a3 a4 a5 a6 a7 : Nat → Int32), x + m = 4 → 1 ≤ p → p ≤ p0 + rs_g tk x → rs_Tb p a5 a6 → (∀ j y, i < j → j < c → y < 4 → rs_V p (a3 (j * 4 + y))) → (∀ y, y < x → rs_V p (a3 (i * 4 + y))) →
    ∃ (p' : Nat) (b3 b4 b5 b6 b7 : Nat → Int32), 1 ≤ p' ∧ p' ≤ p0 + rs_g tk 4 ∧ rs_Tb p' b5 b6 ∧ (∀ j y, i ≤ j → j < c → y < 4 → rs_V p' (b3 (j * 4 + y))) ∧
      ∀ (kn rn sc : Int32) (a1 a8 : Nat → Int32) (post : Int32 → St1 → Prop) (J : rs_J), a1 i = tk → J (nI i + (-1)) (nI c) kn (nI p') rn sc a1 a2 b3 b4 b5 b6 b7 a8 →
        wX_learn_103 post J (nI i) (nI l) (m + 1) (nI x) (nI c) kn (nI p) rn sc a1 a2 a3 a4 a5 a6 a7 a8 := by
  intro m
  induction m with
  | zero =>
    intro x p a3 a4 a5 a6 a7 hx hp1 hp hT hV hV'
    have hx : x = 4 := by omega
    subst hx
    refine ⟨p, a3, a4, a5, a6, a7, hp1, hp, hT, fun j y h1 h2 h3 => ?_, fun kn rn sc a1 a8 post J _ H => br_t (by decide) (nm_e H)⟩
    by_cases e : j = i
    · rw [e]
      exact hV' y h3
    · exact hV j y (by omega) h2 h3
  | succ m ih =>
    intro x p a3 a4 a5 a6 a7 hx hp1 hp hT hV hV'
    have hg := rs_gx tk x
    obtain ⟨r, p1, b4, b5, b6, b7, hr, hp1', hp1'', hT1, F⟩ := rs_project (tk := tk) (a2 := a2) (a3 := a3) (a4 := a4) (a7 := a7) (c := c) (i := i) (x := x) (l := l) hp1 (by omega) hT (by omega) hc hi hl
      (fun h => ⟨hA h, hV (i + 1) x (by omega) (hA h) (by omega)⟩)
      (fun h => by
        obtain ⟨s1, h1, h2⟩ := hB h
        exact ⟨s1, h1, h2, hV (i + 1 + s1) x (by omega) h1 (by omega)⟩)
    have hp2 : p1 ≤ p0 + rs_g tk (x + 1) := Nat.le_trans hp1'' (Nat.le_trans (Nat.add_le_add_right hp _) (Nat.le_of_eq (Nat.add_assoc _ _ _)))
    have hg2 := rs_gx tk (x + 1)
    obtain ⟨p', c3, c4, c5, c6, c7, k1, k2, k3, k4, G⟩ := ih (x + 1) p1 (upd a3 (i * 4 + x) r) b4 b5 b6 b7 (by omega) (by omega) hp2 hT1
      (fun j y h1 h2 h3 => by
        rw [pk_un (by omega)]
        exact rs_V_le hp1' (hV j y h1 h2 h3))
      (fun y h1 => by
        by_cases e : y = x
        · rw [e, pk_us]
          exact hr
        · rw [pk_un (by omega)]
          exact rs_V_le hp1' (hV' y (by omega)))
    refine ⟨p', c3, c4, c5, c6, c7, k1, k2, k3, k4, fun kn rn sc a1 a8 post J et H => ?_⟩
    have E : nI i * 4 + nI x = nI (i * 4 + x) := by
      rw [show nI i * 4 = nI (i * 4) from pk_mul _ 4, nI_add]
    refine br_f (nI_ge (b := 4) (by omega) (by decide)) (F (nI c) kn rn sc a1 a8 _ et ?_)
    dsimp only [rs_c, rs_kn, rs_pc, rs_rn, rs_sc, rs_t, rs_a2, rs_a3, rs_a4, rs_a5, rs_a6, rs_a7, rs_a8, rs_mk, rs_ag]
    exact ⟨pk_in (i * 4 + x) 84 (by omega) E, nm_r (e' := upd a3 (i * 4 + x) r) (by rw [E, nI_clamp (by omega), rs_V_b (by omega) hr]) (nm_r (nI_1 x) (G kn rn sc a1 a8 post J et H))⟩
/-- a span: the plan that begins at j ends inside -/
def rs_Sp (c : Nat) (t a2 : Nat → Int32) (j : Nat) : Prop := ∃ s, 1 ≤ s ∧ j + s ≤ c ∧ a2 j = nI s ∧ rs_nd t (j + s) + 1 = rs_nd t j
theorem rs_ln65 {c i : Nat} {t a2 : Nat → Int32} (hT : rs_Tk c t) (h0 : rs_nd t c = 0) (hi : i < c) (hS : ∀ j, i + 1 ≤ j → j < c → rs_Sp c t a2 j) :
    ∃ sp, 1 ≤ sp ∧ i + sp ≤ c ∧ rs_nd t (i + sp) + 1 = rs_nd t i ∧ (1 ≤ rs_lab (t i) → i + 1 < c) ∧ (2 ≤ rs_lab (t i) → ∃ s1, i + 1 + s1 < c ∧ a2 (i + 1) = nI s1) ∧
      ∀ (kn pc rn sc : Int32) (a1 a3 a4 a5 a6 a7 a8 : Nat → Int32) (post : Int32 → St1 → Prop) (J : rs_J),
        wX_learn_103 post J (nI i) (nI (rs_lab (t i))) 5 0 (nI c) kn pc rn sc a1 (upd a2 i (nI sp)) a3 a4 a5 a6 a7 a8 →
        ((nI (rs_lab (t i)) ≤ 0 → wX_learn_65 post J (nI i) (nI (rs_lab (t i))) 0 (nI c) kn pc rn sc a1 a2 a3 a4 a5 a6 a7 a8) ∧
         (¬ nI (rs_lab (t i)) ≤ 0 → (vp_in (nI i + 1) 21 ∧ wX_learn_65 post J (nI i) (nI (rs_lab (t i))) (a2 (nI i + 1).toNatClampNeg) (nI c) kn pc rn sc a1 a2 a3 a4 a5 a6 a7 a8))) := by
  obtain ⟨hc, -, hnd⟩ := hT
  have hn := hnd i hi
  have hs := rs_nd_s t i
  have hl := rs_lab2 (t i)
  generalize rs_lab (t i) = l at hs hl ⊢
  have ei : (nI i).toNatClampNeg = i := nI_clamp (by omega)
  have ei1 : (nI i + 1).toNatClampNeg = i + 1 := by rw [nI_1]; exact nI_clamp (by omega)
  rcases (show l = 0 ∨ l = 1 ∨ l = 2 by omega) with z | z | z
  · subst z
    refine ⟨1, by omega, by omega, by omega, fun h => absurd h (by omega), fun h => absurd h (by omega), fun kn pc rn sc a1 a3 a4 a5 a6 a7 a8 post J H => ?_⟩
    refine br_t (by decide) (br_t (by decide) (And.intro (pk_in i 21 (by omega)) (nm_r (e' := upd a2 i (nI 1)) ?_ ⟨5, H⟩)))
    rw [ei]
    exact congrArg (upd a2 i) (by decide)
  · subst z
    have hA : i + 1 < c := by
      rcases Nat.lt_or_ge (i + 1) c with z | z
      · exact z
      · have e : i + 1 = c := by omega
        rw [e] at hs
        omega
    obtain ⟨s1, h1, h2, h3, h4⟩ := hS (i + 1) (by omega) hA
    have ea : i + (1 + s1) = i + 1 + s1 := by omega
    refine ⟨1 + s1, by omega, by omega, by rw [ea]; omega, fun _ => hA, fun h => absurd h (by omega), fun kn pc rn sc a1 a3 a4 a5 a6 a7 a8 post J H => ?_⟩
    refine br_f (by decide) ⟨pk_in (i + 1) 21 (by omega) (nI_1 i), br_t (by decide) (And.intro (pk_in i 21 (by omega)) (nm_r (e' := upd a2 i (nI (1 + s1))) ?_ ⟨5, H⟩))⟩
    rw [ei, ei1, h3, Int32.add_zero, show (1 : Int32) + nI s1 = nI (1 + s1) from nI_add 1 s1, rs_b8 _ (by omega)]
  · subst z
    have hA : i + 1 < c := by
      rcases Nat.lt_or_ge (i + 1) c with z | z
      · exact z
      · have e : i + 1 = c := by omega
        rw [e] at hs
        omega
    obtain ⟨s1, h1, h2, h3, h4⟩ := hS (i + 1) (by omega) hA
    have hB : i + 1 + s1 < c := by
      rcases Nat.lt_or_ge (i + 1 + s1) c with z | z
      · exact z
      · have e : i + 1 + s1 = c := by omega
        rw [e] at h4
        omega
    obtain ⟨s2, g1, g2, g3, g4⟩ := hS (i + 1 + s1) (by omega) hB
    have ea : i + (1 + s1 + s2) = i + 1 + s1 + s2 := by omega
    refine ⟨1 + s1 + s2, by omega, by omega, by rw [ea]; omega, fun _ => hA, fun _ => ⟨s1, hB, h3⟩, fun kn pc rn sc a1 a3 a4 a5 a6 a7 a8 post J H => ?_⟩
    have ej : nI i + 1 + a2 (nI i + 1).toNatClampNeg = nI (i + 1 + s1) := by rw [ei1, h3, nI_1, nI_add]
    refine br_f (by decide) ⟨pk_in (i + 1) 21 (by omega) (nI_1 i), br_f (by decide) ⟨pk_in (i + 1 + s1) 21 (by omega) ej, And.intro (pk_in i 21 (by omega)) (nm_r (e' := upd a2 i (nI (1 + s1 + s2))) ?_ ⟨5, H⟩)⟩⟩
    rw [ei, ej, nI_clamp (show i + 1 + s1 < 2 ^ 31 by omega), g3, ei1, h3, show (1 : Int32) + nI s1 = nI (1 + s1) from nI_add 1 s1, nI_add, rs_b8 _ (by omega)]
theorem rs_ln35 {c : Nat} {t : Nat → Int32} (hT : rs_Tk c t) (h0 : rs_nd t c = 0) :
    ∀ (i p : Nat) (a2 a3 a4 a5 a6 a7 : Nat → Int32), i ≤ c → 1 ≤ p → p ≤ 1 + 2 * (c - i) → rs_Tb p a5 a6 → (∀ j, i ≤ j → j < c → rs_Sp c t a2 j) → (∀ j y, i ≤ j → j < c → y < 4 → rs_V p (a3 (j * 4 + y))) →
    ∃ (p' : Nat) (b2 b3 b4 b5 b6 b7 : Nat → Int32), 1 ≤ p' ∧ p' ≤ 48 ∧ rs_Tb p' b5 b6 ∧ (∀ j y, j < c → y < 4 → rs_V p' (b3 (j * 4 + y))) ∧
      ∀ (kn rn sc : Int32) (a1 a8 : Nat → Int32) (post : Int32 → St1 → Prop), (∀ j, j < c → a1 j = t j) → post 1 (nI c, kn, nI p', rn, sc, a1, b2, b3, b4, b5, b6, b7, a8) →
        wX_learn_35 post (i + 1) (nI i + (-1)) (nI c) kn (nI p) rn sc a1 a2 a3 a4 a5 a6 a7 a8 := by
  intro i
  have hc := hT.1
  induction i with
  | zero =>
    intro p a2 a3 a4 a5 a6 a7 _ hp1 hp hTb hS hV
    exact ⟨p, a2, a3, a4, a5, a6, a7, hp1, by omega, hTb, fun j y h1 h2 => hV j y (by omega) h1 h2, fun kn rn sc a1 a8 post _ H => br_t (by decide) H⟩
  | succ i ih =>
    intro p a2 a3 a4 a5 a6 a7 hic hp1 hp hTb hS hV
    obtain ⟨sp, s1, s2, s3, s4, s5, W⟩ := rs_ln65 hT h0 (show i < c by omega) hS
    obtain ⟨k, hk, ek⟩ := hT.2.1 i (by omega)
    have hg4 := rs_g4 k (by omega)
    rw [← ek] at hg4
    obtain ⟨p1, b3, b4, b5, b6, b7, h1, h2, h3, h4, F⟩ := rs_ln103 (tk := t i) (p0 := p) (a2 := upd a2 i (nI sp)) hc (show i < c by omega) (rs_lab2 (t i)) (by omega) s4
      (fun h => by
        obtain ⟨q, hq, eq⟩ := s5 h
        exact ⟨q, hq, by rw [pk_un (by omega)]; exact eq⟩)
      4 0 p a3 a4 a5 a6 a7 (by omega) hp1 (Nat.le_add_right _ _) hTb (fun j y g1 g2 g3 => hV j y (by omega) g2 g3) (fun y hy => absurd hy (by omega))
    obtain ⟨p', c2, c3, c4, c5, c6, c7, k1, k2, k3, k4, G⟩ := ih p1 (upd a2 i (nI sp)) b3 b4 b5 b6 b7 (by omega) h1 (by omega) h3
      (fun j g1 g2 => by
        by_cases e : j = i
        · rw [e]
          exact ⟨sp, s1, s2, pk_us, s3⟩
        · obtain ⟨q, q1, q2, q3, q4⟩ := hS j (by omega) g2
          exact ⟨q, q1, q2, by rw [pk_un e]; exact q3, q4⟩)
      h4
    refine ⟨p', c2, c3, c4, c5, c6, c7, k1, k2, k3, k4, fun kn rn sc a1 a8 post ha H => ?_⟩
    rw [pk_m1]
    have et : a1 (nI i).toNatClampNeg = t i := by rw [nI_clamp (by omega)]; exact ha i (by omega)
    refine br_f (nI_pos (by omega)) ⟨pk_in i 21 (by omega), ?_⟩
    rw [et]
    exact rs_labelsOf _ (W kn (nI p) rn sc a1 a3 a4 a5 a6 a7 a8 post _ (F kn rn sc a1 a8 post _ (ha i (by omega)) (G kn rn sc a1 a8 post ha H)))
theorem rs_learn {P : rs_P} (h : rs_ok P) :
    rs_op wpX_learn P 0 P ∨ ∃ P' : rs_P, rs_ok P' ∧ rs_kn P' = 1 ∧ rs_op wpX_learn P 1 P' := by
  obtain ⟨c, kn, pc, rn, sc, t, a2, a3, a4, a5, a6, a7, a8⟩ := P
  obtain ⟨hT, hkn, hrn, hkr, hK⟩ := h
  dsimp only [rs_c, rs_kn, rs_pc, rs_rn, rs_sc, rs_t, rs_a2, rs_a3, rs_a4, rs_a5, rs_a6, rs_a7, rs_a8, rs_mk, rs_ag] at hT hkn hrn hkr hK
  by_cases h0 : rs_nd t c = 0
  · refine Or.inr ?_
    by_cases hk : kn = 0
    · have hr : rn = 0 := hkr hk
      have hc1 : 0 < c := by
        rcases Nat.eq_zero_or_pos c with z | z
        · rw [z] at h0
          exact absurd h0 (Nat.succ_ne_zero 0)
        · exact z
      obtain ⟨p', b2, b3, b4, b5, b6, b7, k1, k2, k3, k4, F⟩ := rs_ln35 hT h0 c 1 a2 a3 a4 a5 a6 a7 (Nat.le_refl c) (Nat.le_refl 1) (by omega) (fun q h1 h2 => absurd h1 (by omega)) (fun j h1 h2 => absurd h1 (by omega)) (fun j y h1 h2 _ => absurd h1 (by omega))
      refine ⟨(c, 1, nI p', rn, sc, t, b2, b3, b4, b5, b6, b7, a8), ⟨hT, Or.inr rfl, hrn, fun z => absurd z rs_10, fun _ => ⟨h0, p', ⟨rfl, k1, k2, k3, fun x hx => ?_⟩, fun z => ?_⟩⟩, rfl, fun a1 ha post H => ?_⟩
      · have q := k4 0 x hc1 hx
        rw [Nat.zero_mul, Nat.zero_add] at q
        exact q
      · have z : rn = 1 := z
        rw [hr] at z
        exact absurd z (by decide)
      · dsimp only [rs_c, rs_kn, rs_pc, rs_rn, rs_sc, rs_t, rs_a2, rs_a3, rs_a4, rs_a5, rs_a6, rs_a7, rs_a8, rs_mk, rs_ag] at ha H ⊢
        unfold wpX_learn
        dsimp only
        exact rs_complete hT ha (fun _ => br_f (by decide) (br_t hk (nm_r (e' := nI c + (-1)) (Int32.sub_eq_add_neg _ _) ⟨c + 1, F 1 rn sc a1 a8 post ha (H a1 ha)⟩))) (fun z => absurd h0 z)
    · refine ⟨(c, kn, pc, rn, sc, t, a2, a3, a4, a5, a6, a7, a8), ⟨hT, hkn, hrn, hkr, hK⟩, hkn.resolve_left hk, fun a1 ha post H => ?_⟩
      dsimp only [rs_c, rs_kn, rs_pc, rs_rn, rs_sc, rs_t, rs_a2, rs_a3, rs_a4, rs_a5, rs_a6, rs_a7, rs_a8, rs_mk, rs_ag] at ha H ⊢
      unfold wpX_learn
      dsimp only
      exact rs_complete hT ha (fun _ => br_f (by decide) (br_f hk (H a1 ha))) (fun z => absurd h0 z)
  · refine Or.inl (fun a1 ha post H => ?_)
    dsimp only [rs_c, rs_kn, rs_pc, rs_rn, rs_sc, rs_t, rs_a2, rs_a3, rs_a4, rs_a5, rs_a6, rs_a7, rs_a8, rs_mk, rs_ag] at ha H ⊢
    unfold wpX_learn
    dsimp only
    exact rs_complete hT ha (fun z => absurd z h0) (fun _ => br_t rfl (H a1 ha))
/-- once known, learn does nothing -/
theorem rs_learnK {P : rs_P} (h : rs_ok P) (hk : rs_kn P = 1) : rs_op wpX_learn P 1 P := by
  obtain ⟨c, kn, pc, rn, sc, t, a2, a3, a4, a5, a6, a7, a8⟩ := P
  obtain ⟨hT, hkn, hrn, hkr, hK⟩ := h
  dsimp only [rs_c, rs_kn, rs_pc, rs_rn, rs_sc, rs_t, rs_a2, rs_a3, rs_a4, rs_a5, rs_a6, rs_a7, rs_a8, rs_mk, rs_ag] at hT hkn hrn hkr hK hk
  intro a1 ha post H
  dsimp only [rs_c, rs_kn, rs_pc, rs_rn, rs_sc, rs_t, rs_a2, rs_a3, rs_a4, rs_a5, rs_a6, rs_a7, rs_a8, rs_mk, rs_ag] at ha H ⊢
  unfold wpX_learn
  dsimp only
  exact rs_complete hT ha (fun _ => br_f (by decide) (br_f (by rw [hk]; decide) (H a1 ha))) (fun z => absurd (hK hk).1 z)
end
section
/-! fixed, fit, size, start -/
theorem rs_fixN {P : rs_P} {x : Nat} (hx : x < 4) (L : rs_op wpX_learn P 0 P) : rs_op (fun post u => wpX_fixed post u (nI x)) P 0 P := by
  obtain ⟨c, kn, pc, rn, sc, t, a2, a3, a4, a5, a6, a7, a8⟩ := P
  intro a1 ha post H
  dsimp only [rs_c, rs_kn, rs_pc, rs_rn, rs_sc, rs_t, rs_a2, rs_a3, rs_a4, rs_a5, rs_a6, rs_a7, rs_a8, rs_mk, rs_ag] at L ha H ⊢
  unfold wpX_fixed
  dsimp only
  exact rs_isRole1 hx (br_f (by decide) (L a1 ha _ (fun b1 hb => br_t rfl (H b1 hb))))
theorem rs_fixG {P P' : rs_P} {x : Nat} (hx : x < 4) (L : rs_op wpX_learn P 1 P') : rs_op (fun post u => wpX_fixed post u (nI x)) P (if rs_a3 P' x = -1 then 0 else 1) P' := by
  obtain ⟨c, kn, pc, rn, sc, t, a2, a3, a4, a5, a6, a7, a8⟩ := P
  obtain ⟨d, ln, qc, sn, tc, w, b2, b3, b4, b5, b6, b7, b8⟩ := P'
  intro a1 ha post H
  dsimp only [rs_c, rs_kn, rs_pc, rs_rn, rs_sc, rs_t, rs_a2, rs_a3, rs_a4, rs_a5, rs_a6, rs_a7, rs_a8, rs_mk, rs_ag] at L ha H ⊢
  unfold wpX_fixed
  dsimp only
  refine rs_isRole1 hx (br_f (by decide) (L a1 ha _ (fun b1 hb => br_f (by decide) ⟨pk_in x 84 (by omega), ?_⟩)))
  have H' := H b1 hb
  rw [nI_clamp (by omega)]
  by_cases e : b3 x = -1
  · rw [if_pos e] at H'
    exact br_t e H'
  · rw [if_neg e] at H'
    exact br_f e H'
theorem rs_fixed {P : rs_P} (h : rs_ok P) {x : Nat} (hx : x < 4) :
    ∃ (r : Int32) (P' : rs_P), rs_ok P' ∧ (¬ r = 0 → rs_kn P' = 1 ∧ ¬ rs_a3 P' x = -1) ∧ rs_op (fun post u => wpX_fixed post u (nI x)) P r P' := by
  rcases rs_learn h with L | ⟨P', hP', hk, L⟩
  · exact ⟨0, P, h, fun z => absurd rfl z, rs_fixN hx L⟩
  · refine ⟨_, P', hP', fun z => ⟨hk, fun e => z (if_pos e)⟩, rs_fixG hx L⟩
theorem rs_fit {P : rs_P} (h : rs_ok P) :
    ∃ (r : Int32) (P' : rs_P), rs_ok P' ∧ (¬ r = 0 → rs_kn P' = 1 ∧ ∀ x, x < 4 → ¬ rs_a3 P' x = -1) ∧ rs_op wpX_fit P r P' := by
  rcases rs_learn h with L | ⟨P', hP', hk, L⟩
  · have F0 := rs_fixN (x := 0) (by omega) L
    refine ⟨0, P, h, fun z => absurd rfl z, ?_⟩
    obtain ⟨c, kn, pc, rn, sc, t, a2, a3, a4, a5, a6, a7, a8⟩ := P
    intro a1 ha post H
    dsimp only [rs_c, rs_kn, rs_pc, rs_rn, rs_sc, rs_t, rs_a2, rs_a3, rs_a4, rs_a5, rs_a6, rs_a7, rs_a8, rs_mk, rs_ag] at F0 ha H ⊢
    unfold wpX_fit
    dsimp only
    exact F0 a1 ha _ (fun b1 hb => br_t rfl (H b1 hb))
  · have K := rs_learnK hP' hk
    have F0 := rs_fixG (x := 0) (by omega) L
    have F1 := rs_fixG (x := 1) (by omega) K
    have F2 := rs_fixG (x := 2) (by omega) K
    have F3 := rs_fixG (x := 3) (by omega) K
    by_cases e0 : rs_a3 P' 0 = -1
    · rw [if_pos e0] at F0
      refine ⟨0, P', hP', fun z => absurd rfl z, ?_⟩
      obtain ⟨c, kn, pc, rn, sc, t, a2, a3, a4, a5, a6, a7, a8⟩ := P
      obtain ⟨d, ln, qc, sn, tc, w, b2, b3, b4, b5, b6, b7, b8⟩ := P'
      intro a1 ha post H
      dsimp only [rs_c, rs_kn, rs_pc, rs_rn, rs_sc, rs_t, rs_a2, rs_a3, rs_a4, rs_a5, rs_a6, rs_a7, rs_a8, rs_mk, rs_ag] at F0 ha H ⊢
      unfold wpX_fit
      dsimp only
      exact F0 a1 ha _ (fun b1 hb => br_t rfl (H b1 hb))
    rw [if_neg e0] at F0
    by_cases e1 : rs_a3 P' 1 = -1
    · rw [if_pos e1] at F1
      refine ⟨0, P', hP', fun z => absurd rfl z, ?_⟩
      obtain ⟨c, kn, pc, rn, sc, t, a2, a3, a4, a5, a6, a7, a8⟩ := P
      obtain ⟨d, ln, qc, sn, tc, w, b2, b3, b4, b5, b6, b7, b8⟩ := P'
      intro a1 ha post H
      dsimp only [rs_c, rs_kn, rs_pc, rs_rn, rs_sc, rs_t, rs_a2, rs_a3, rs_a4, rs_a5, rs_a6, rs_a7, rs_a8, rs_mk, rs_ag] at F0 F1 ha H ⊢
      unfold wpX_fit
      dsimp only
      exact F0 a1 ha _ (fun b1 hb => br_f (by decide) (F1 b1 hb _ (fun b1 hb => br_t rfl (H b1 hb))))
    rw [if_neg e1] at F1
    by_cases e2 : rs_a3 P' 2 = -1
    · rw [if_pos e2] at F2
      refine ⟨0, P', hP', fun z => absurd rfl z, ?_⟩
      obtain ⟨c, kn, pc, rn, sc, t, a2, a3, a4, a5, a6, a7, a8⟩ := P
      obtain ⟨d, ln, qc, sn, tc, w, b2, b3, b4, b5, b6, b7, b8⟩ := P'
      intro a1 ha post H
      dsimp only [rs_c, rs_kn, rs_pc, rs_rn, rs_sc, rs_t, rs_a2, rs_a3, rs_a4, rs_a5, rs_a6, rs_a7, rs_a8, rs_mk, rs_ag] at F0 F1 F2 ha H ⊢
      unfold wpX_fit
      dsimp only
      exact F0 a1 ha _ (fun b1 hb => br_f (by decide) (F1 b1 hb _ (fun b1 hb => br_f (by decide) (F2 b1 hb _ (fun b1 hb => br_t rfl (H b1 hb))))))
    rw [if_neg e2] at F2
    by_cases e3 : rs_a3 P' 3 = -1
    · rw [if_pos e3] at F3
      refine ⟨0, P', hP', fun z => absurd rfl z, ?_⟩
      obtain ⟨c, kn, pc, rn, sc, t, a2, a3, a4, a5, a6, a7, a8⟩ := P
      obtain ⟨d, ln, qc, sn, tc, w, b2, b3, b4, b5, b6, b7, b8⟩ := P'
      intro a1 ha post H
      dsimp only [rs_c, rs_kn, rs_pc, rs_rn, rs_sc, rs_t, rs_a2, rs_a3, rs_a4, rs_a5, rs_a6, rs_a7, rs_a8, rs_mk, rs_ag] at F0 F1 F2 F3 ha H ⊢
      unfold wpX_fit
      dsimp only
      exact F0 a1 ha _ (fun b1 hb => br_f (by decide) (F1 b1 hb _ (fun b1 hb => br_f (by decide) (F2 b1 hb _ (fun b1 hb => br_f (by decide) (F3 b1 hb _ (fun b1 hb => br_t rfl (H b1 hb))))))))
    rw [if_neg e3] at F3
    refine ⟨1, P', hP', fun _ => ⟨hk, fun x hx => co_4 (P := fun x => ¬ rs_a3 P' x = -1) e0 e1 e2 e3 hx⟩, ?_⟩
    obtain ⟨c, kn, pc, rn, sc, t, a2, a3, a4, a5, a6, a7, a8⟩ := P
    obtain ⟨d, ln, qc, sn, tc, w, b2, b3, b4, b5, b6, b7, b8⟩ := P'
    intro a1 ha post H
    dsimp only [rs_c, rs_kn, rs_pc, rs_rn, rs_sc, rs_t, rs_a2, rs_a3, rs_a4, rs_a5, rs_a6, rs_a7, rs_a8, rs_mk, rs_ag] at F0 F1 F2 F3 ha H ⊢
    unfold wpX_fit
    dsimp only
    exact F0 a1 ha _ (fun b1 hb => br_f (by decide) (F1 b1 hb _ (fun b1 hb => br_f (by decide) (F2 b1 hb _ (fun b1 hb => br_f (by decide) (F3 b1 hb _ (fun b1 hb => br_f (by decide) (H b1 hb))))))))
theorem rs_size {P : rs_P} (h : rs_ok P) {x : Nat} (hx : x < 4) : ∃ (r : Int32) (P' : rs_P), rs_ok P' ∧ rs_op (fun post u => wpX_size post u (nI x)) P r P' := by
  obtain ⟨r, P', hP', hr, F⟩ := rs_fixed h hx
  by_cases e : r = 0
  · refine ⟨-1, P', hP', ?_⟩
    obtain ⟨c, kn, pc, rn, sc, t, a2, a3, a4, a5, a6, a7, a8⟩ := P
    obtain ⟨d, ln, qc, sn, tc, w, b2, b3, b4, b5, b6, b7, b8⟩ := P'
    intro a1 ha post H
    dsimp only [rs_c, rs_kn, rs_pc, rs_rn, rs_sc, rs_t, rs_a2, rs_a3, rs_a4, rs_a5, rs_a6, rs_a7, rs_a8, rs_mk, rs_ag] at F ha H ⊢
    unfold wpX_size
    dsimp only
    exact F a1 ha _ (fun b1 hb => br_t e (H b1 hb))
  · obtain ⟨hk, h3⟩ := hr e
    obtain ⟨-, p, ⟨-, -, hp, -, hV⟩, -⟩ := hP'.2.2.2.2 hk
    obtain ⟨k, hk2, ek⟩ := (hV x hx).resolve_left h3
    refine ⟨rs_a7 P' k, P', hP', ?_⟩
    obtain ⟨c, kn, pc, rn, sc, t, a2, a3, a4, a5, a6, a7, a8⟩ := P
    obtain ⟨d, ln, qc, sn, tc, w, b2, b3, b4, b5, b6, b7, b8⟩ := P'
    intro a1 ha post H
    dsimp only [rs_c, rs_kn, rs_pc, rs_rn, rs_sc, rs_t, rs_a2, rs_a3, rs_a4, rs_a5, rs_a6, rs_a7, rs_a8, rs_mk, rs_ag] at F ha H ek ⊢
    unfold wpX_size
    dsimp only
    refine F a1 ha _ (fun b1 hb => br_f e ⟨pk_in x 84 (by omega), ?_⟩)
    dsimp only [rs_c, rs_kn, rs_pc, rs_rn, rs_sc, rs_t, rs_a2, rs_a3, rs_a4, rs_a5, rs_a6, rs_a7, rs_a8, rs_mk, rs_ag]
    rw [nI_clamp (show x < 2 ^ 31 by omega), ek, nI_clamp (by omega)]
    exact ⟨vp_in_nI (by omega) (by decide), H b1 hb⟩
theorem rs_st21 {c kn pc rn sc : Int32} {a2 a3 a4 a5 a6 a7 : Nat → Int32} {p : Nat} (hp : p ≤ 48) (hV : ∀ x, x < 4 → rs_V p (a3 x)) :
    ∀ (m x : Nat) (a8 : Nat → Int32), x + m = 4 → ∃ b8 : Nat → Int32, (∀ y, y < 4 → (y < x → b8 y = a8 y) ∧ (x ≤ y → b8 y = a3 y)) ∧
      ∀ (a1 : Nat → Int32) (post : Int32 → St1 → Prop), post 1 (c, kn, pc, rn, sc, a1, a2, a3, a4, a5, a6, a7, b8) → wX_start_21 post c kn pc rn sc (m + 1) (nI x) a1 a2 a3 a4 a5 a6 a7 a8 := by
  intro m
  induction m with
  | zero =>
    intro x a8 hx
    have hx : x = 4 := by omega
    subst hx
    exact ⟨a8, fun y hy => ⟨fun _ => rfl, fun z => absurd z (by omega)⟩, fun a1 post H => br_t (by decide) H⟩
  | succ m ih =>
    intro x a8 hx
    obtain ⟨b8, h1, F⟩ := ih (x + 1) (upd a8 x (a3 x)) (by omega)
    refine ⟨b8, fun y hy => ⟨fun z => ?_, fun z => ?_⟩, fun a1 post H => br_f (nI_ge (b := 4) (by omega) (by decide)) ⟨pk_in x 84 (by omega), pk_in x 4 (by omega), nm_r (e' := upd a8 x (a3 x)) ?_ (nm_r (nI_1 x) (F a1 post H))⟩⟩
    · rw [(h1 y hy).1 (by omega), pk_un (by omega)]
    · by_cases e : y = x
      · rw [(h1 y hy).1 (by omega), e, pk_us]
      · exact (h1 y hy).2 (by omega)
    · rw [nI_clamp (by omega), vp_nar_byte, rs_V_b (by omega) (hV x (by omega))]
theorem rs_start {P : rs_P} (h : rs_ok P) : ∃ (r : Int32) (P' : rs_P), rs_ok P' ∧ rs_op wpX_start P r P' := by
  obtain ⟨r, P', hP', hr, F⟩ := rs_fit h
  by_cases e : r = 0
  · refine ⟨0, P', hP', ?_⟩
    obtain ⟨c, kn, pc, rn, sc, t, a2, a3, a4, a5, a6, a7, a8⟩ := P
    obtain ⟨d, ln, qc, sn, tc, w, b2, b3, b4, b5, b6, b7, b8⟩ := P'
    intro a1 ha post H
    dsimp only [rs_c, rs_kn, rs_pc, rs_rn, rs_sc, rs_t, rs_a2, rs_a3, rs_a4, rs_a5, rs_a6, rs_a7, rs_a8, rs_mk, rs_ag] at F ha H ⊢
    unfold wpX_start
    dsimp only
    exact F a1 ha _ (fun b1 hb => br_t e (H b1 hb))
  · obtain ⟨hk, h3⟩ := hr e
    obtain ⟨c, kn, pc, rn, sc, t, a2, a3, a4, a5, a6, a7, a8⟩ := P
    obtain ⟨d, ln, qc, sn, tc, w, b2, b3, b4, b5, b6, b7, b8⟩ := P'
    obtain ⟨hT, hkn, hrn, hkr, hK⟩ := hP'
    dsimp only [rs_c, rs_kn, rs_pc, rs_rn, rs_sc, rs_t, rs_a2, rs_a3, rs_a4, rs_a5, rs_a6, rs_a7, rs_a8, rs_mk, rs_ag] at F hT hkn hrn hkr hK hk h3
    obtain ⟨h0, p, ⟨k1, k2, k3, k4, hV⟩, -⟩ := hK hk
    obtain ⟨c8, g1, G⟩ := rs_st21 (c := nI d) (kn := ln) (pc := qc) (rn := 1) (sc := 0) (a2 := b2) (a3 := b3) (a4 := b4) (a5 := b5) (a6 := b6) (a7 := b7) k3 hV 4 0 b8 (by omega)
    refine ⟨1, (d, ln, qc, 1, 0, w, b2, b3, b4, b5, b6, b7, c8), ⟨hT, hkn, Or.inr rfl, fun z => ?_, fun _ => ⟨h0, p, ⟨k1, k2, k3, k4, hV⟩, fun _ x hx => ?_⟩⟩, fun a1 ha post H => ?_⟩
    · have z : ln = 0 := z
      rw [hk] at z
      exact absurd z (by decide)
    · obtain ⟨k, hk1, ek⟩ := (hV x hx).resolve_left (h3 x hx)
      refine ⟨k, hk1, ?_⟩
      show c8 x = nI k
      rw [(g1 x hx).2 (by omega), ek]
    · dsimp only [rs_c, rs_kn, rs_pc, rs_rn, rs_sc, rs_t, rs_a2, rs_a3, rs_a4, rs_a5, rs_a6, rs_a7, rs_a8, rs_mk, rs_ag] at ha H ⊢
      unfold wpX_start
      dsimp only
      exact F a1 ha _ (fun b1 hb => br_f e ⟨5, G b1 post (H b1 hb)⟩)
end
section
/-! questions: runs, sent, duty, labels, rest, over, choices -/
theorem rs_bool {x : Int32} (h : x = 0 ∨ x = 1) : narrow .boolean (.int x) = .int x := by
  rcases h with h | h <;> subst h <;> rfl
theorem rs_runs {P : rs_P} (h : rs_ok P) (a1 : Nat → Int32) (post : Int32 → Prop) (H : post (rs_rn P)) : wpX_runs post (rs_mk P a1) :=
  And.intro (rs_bool h.2.2.1) H
theorem rs_sent (P : rs_P) : ∃ r : Int32, ∀ (a1 : Nat → Int32) (post : Int32 → Prop), post r → wpX_sent post (rs_mk P a1) := by
  by_cases e : rs_rn P = 0
  · exact ⟨-1, fun a1 post H => br_t e H⟩
  · exact ⟨rs_sc P, fun a1 post H => br_f e H⟩
/-- what a running picture holds -/
theorem rs_pres {P : rs_P} (h : rs_ok P) (e : ¬ rs_rn P = 0) {x : Nat} (hx : x < 4) : ∃ k, k < 48 ∧ rs_a8 P x = nI k := by
  obtain ⟨hT, hkn, hrn, hkr, hK⟩ := h
  obtain ⟨-, p, ⟨-, -, hp, -, -⟩, hpr⟩ := hK (hkn.resolve_left (fun z => e (hkr z)))
  obtain ⟨k, hk, ek⟩ := hpr (hrn.resolve_left e) x hx
  exact ⟨k, by omega, ek⟩
theorem rs_duty {P : rs_P} (h : rs_ok P) {x : Nat} (hx : x < 4) : ∃ r : Int32, ∀ (a1 : Nat → Int32) (post : Int32 → Prop), post r → wpX_duty post (rs_mk P a1) (nI x) := by
  by_cases e : rs_rn P = 0
  · exact ⟨-1, fun a1 post H => br_t e H⟩
  · obtain ⟨k, hk, ek⟩ := rs_pres h e hx
    have ex : (nI x).toNatClampNeg = x := nI_clamp (by omega)
    have ek2 : (nI k).toNatClampNeg = k := nI_clamp (by omega)
    by_cases z : nI k = 0
    · refine ⟨0, fun a1 post H => br_f e (rs_isRole1 hx (br_f (by decide) ⟨pk_in x 4 hx, br_t ?_ H⟩))⟩
      rw [ex]
      exact ek.trans z
    · refine ⟨rs_a4 P k, fun a1 post H => br_f e (rs_isRole1 hx (br_f (by decide) ⟨pk_in x 4 hx, ?_⟩))⟩
      rw [ex, ek, ek2]
      exact br_f z ⟨pk_in x 4 hx, pk_in k 48 hk, H⟩
theorem rs_labels {P : rs_P} (h : rs_ok P) {x : Nat} (hx : x < 4) : ∃ r : Int32, ∀ (a1 : Nat → Int32) (post : Int32 → Prop), post r → wpX_labels post (rs_mk P a1) (nI x) := by
  by_cases e : rs_rn P = 0
  · exact ⟨-1, fun a1 post H => br_t e H⟩
  · obtain ⟨k, hk, ek⟩ := rs_pres h e hx
    have ex : (nI x).toNatClampNeg = x := nI_clamp (by omega)
    have ek2 : (nI k).toNatClampNeg = k := nI_clamp (by omega)
    by_cases z : nI k = 0
    · refine ⟨0, fun a1 post H => br_f e (rs_isRole1 hx (br_f (by decide) ⟨pk_in x 4 hx, br_t ?_ H⟩))⟩
      rw [ex]
      exact ek.trans z
    · refine ⟨rs_a5 P k, fun a1 post H => br_f e (rs_isRole1 hx (br_f (by decide) ⟨pk_in x 4 hx, ?_⟩))⟩
      rw [ex, ek, ek2]
      exact br_f z ⟨pk_in x 4 hx, pk_in k 48 hk, H⟩
theorem rs_rest {P : rs_P} (h : rs_ok P) {x : Nat} (hx : x < 4) : ∃ r : Int32, ∀ (a1 : Nat → Int32) (post : Int32 → Prop), post r → wpX_rest post (rs_mk P a1) (nI x) := by
  by_cases e : rs_rn P = 0
  · exact ⟨-1, fun a1 post H => br_t e H⟩
  · obtain ⟨k, hk, ek⟩ := rs_pres h e hx
    have ex : (nI x).toNatClampNeg = x := nI_clamp (by omega)
    have ek2 : (nI k).toNatClampNeg = k := nI_clamp (by omega)
    refine ⟨rs_a7 P k, fun a1 post H => br_f e (rs_isRole1 hx (br_f (by decide) ⟨pk_in x 4 hx, ?_⟩))⟩
    rw [ex, ek, ek2]
    exact ⟨pk_in k 48 hk, H⟩
theorem rs_ov11 {c kn pc rn sc : Int32} {a2 a3 a4 a5 a6 a7 a8 : Nat → Int32} : ∀ m x : Nat, x + m = 4 →
    ∃ r : Int32, ∀ (a1 : Nat → Int32) (post : Int32 → Prop), post r → wX_over_11 post c kn pc rn sc a1 a2 a3 a4 a5 a6 a7 a8 (m + 1) (nI x) := by
  intro m
  induction m with
  | zero =>
    intro x hx
    have hx : x = 4 := by omega
    subst hx
    exact ⟨1, fun a1 post H => br_t (by decide) H⟩
  | succ m ih =>
    intro x hx
    obtain ⟨r, F⟩ := ih (x + 1) (by omega)
    by_cases e : a8 (nI x).toNatClampNeg = 0
    · exact ⟨r, fun a1 post H => br_f (nI_ge (b := 4) (by omega) (by decide)) ⟨pk_in x 4 (by omega), br_t e (nm_r (nI_1 x) (F a1 post H))⟩⟩
    · exact ⟨0, fun a1 post H => br_f (nI_ge (b := 4) (by omega) (by decide)) ⟨pk_in x 4 (by omega), br_f e H⟩⟩
theorem rs_over (P : rs_P) : ∃ r : Int32, ∀ (a1 : Nat → Int32) (post : Int32 → Prop), post r → wpX_over post (rs_mk P a1) := by
  by_cases e : rs_rn P = 0
  · exact ⟨0, fun a1 post H => br_t e H⟩
  · obtain ⟨c, kn, pc, rn, sc, t, a2, a3, a4, a5, a6, a7, a8⟩ := P
    obtain ⟨r, F⟩ := rs_ov11 (c := nI c) (kn := kn) (pc := pc) (rn := rn) (sc := sc) (a2 := a2) (a3 := a3) (a4 := a4) (a5 := a5) (a6 := a6) (a7 := a7) (a8 := a8) 4 0 (by omega)
    exact ⟨r, fun a1 post H => br_f e ⟨5, F a1 post H⟩⟩
theorem rs_ch11 {c : Nat} {kn pc rn sc : Int32} {t a2 a3 a4 a5 a6 a7 a8 : Nat → Int32} (h : rs_ok (c, kn, pc, rn, sc, t, a2, a3, a4, a5, a6, a7, a8)) (x2 : Int32) : ∀ (m x : Nat) (x1 : Int32), x + m = 4 →
    ∃ r : Int32, ∀ (a1 : Nat → Int32) (post : Int32 → Prop) (J : Int32 → Int32 → Prop), J r (x2 + 1) → wX_choices_11 post J x2 (nI c) kn pc rn sc a1 a2 a3 a4 a5 a6 a7 a8 (m + 1) x1 (nI x) := by
  intro m
  induction m with
  | zero =>
    intro x x1 hx
    have hx : x = 4 := by omega
    subst hx
    exact ⟨x1, fun a1 post J H => br_t (by decide) (nm_e H)⟩
  | succ m ih =>
    intro x x1 hx
    have hx4 : ¬ (4 : Int32) ≤ nI x := nI_ge (b := 4) (by omega) (by decide)
    obtain ⟨r0, F0⟩ := rs_possQ h x2 (nI x) 0
    obtain ⟨r1, F1⟩ := rs_possQ h x2 (nI x) 1
    dsimp only [rs_c, rs_kn, rs_pc, rs_rn, rs_sc, rs_t, rs_a2, rs_a3, rs_a4, rs_a5, rs_a6, rs_a7, rs_a8, rs_mk, rs_ag] at F0 F1
    by_cases e0 : r0 = 0
    · by_cases e1 : r1 = 0
      · obtain ⟨r, G⟩ := ih (x + 1) (x1 + 0 + 0) (by omega)
        refine ⟨r, fun a1 post J H => br_f hx4 (F0 a1 _ (br_t e0 ?_))⟩
        unfold wX_choices_32
        exact nm_e (F1 a1 _ (br_t e1 (nm_e (nm_r (nI_1 x) (G a1 post J H)))))
      · obtain ⟨r, G⟩ := ih (x + 1) (x1 + 0 + 1) (by omega)
        refine ⟨r, fun a1 post J H => br_f hx4 (F0 a1 _ (br_t e0 ?_))⟩
        unfold wX_choices_32
        exact nm_e (F1 a1 _ (br_f e1 (nm_e (nm_r (nI_1 x) (G a1 post J H)))))
    · by_cases e1 : r1 = 0
      · obtain ⟨r, G⟩ := ih (x + 1) (x1 + 1 + 0) (by omega)
        refine ⟨r, fun a1 post J H => br_f hx4 (F0 a1 _ (br_f e0 ?_))⟩
        unfold wX_choices_32
        exact nm_e (F1 a1 _ (br_t e1 (nm_e (nm_r (nI_1 x) (G a1 post J H)))))
      · obtain ⟨r, G⟩ := ih (x + 1) (x1 + 1 + 1) (by omega)
        refine ⟨r, fun a1 post J H => br_f hx4 (F0 a1 _ (br_f e0 ?_))⟩
        unfold wX_choices_32
        exact nm_e (F1 a1 _ (br_f e1 (nm_e (nm_r (nI_1 x) (G a1 post J H)))))
theorem rs_ch4 {c : Nat} {kn pc rn sc : Int32} {t a2 a3 a4 a5 a6 a7 a8 : Nat → Int32} (h : rs_ok (c, kn, pc, rn, sc, t, a2, a3, a4, a5, a6, a7, a8)) : ∀ (m x : Nat) (x1 : Int32), x + m = 4 →
    ∃ r : Int32, ∀ (a1 : Nat → Int32) (post : Int32 → Prop), post r → wX_choices_4 post (nI c) kn pc rn sc a1 a2 a3 a4 a5 a6 a7 a8 (m + 1) x1 (nI x) := by
  intro m
  induction m with
  | zero =>
    intro x x1 hx
    have hx : x = 4 := by omega
    subst hx
    exact ⟨x1, fun a1 post H => br_t (by decide) H⟩
  | succ m ih =>
    intro x x1 hx
    obtain ⟨r1, F⟩ := rs_ch11 h (nI x) 4 0 x1 (by omega)
    obtain ⟨r, G⟩ := ih (x + 1) r1 (by omega)
    refine ⟨r, fun a1 post H => br_f (nI_ge (b := 4) (by omega) (by decide)) ⟨5, F a1 post _ ?_⟩⟩
    rw [nI_1]
    exact G a1 post H
theorem rs_choices {P : rs_P} (h : rs_ok P) : ∃ r : Int32, ∀ (a1 : Nat → Int32) (post : Int32 → Prop), post r → wpX_choices post (rs_mk P a1) := by
  obtain ⟨c, kn, pc, rn, sc, t, a2, a3, a4, a5, a6, a7, a8⟩ := P
  obtain ⟨r, F⟩ := rs_ch4 h 4 0 0 (by omega)
  refine ⟨r, fun a1 post H => ?_⟩
  dsimp only [rs_c, rs_kn, rs_pc, rs_rn, rs_sc, rs_t, rs_a2, rs_a3, rs_a4, rs_a5, rs_a6, rs_a7, rs_a8, rs_mk, rs_ag]
  unfold wpX_choices
  dsimp only
  exact ⟨5, F a1 post H⟩
end
section
/-! turn, aside -/
theorem rs_turn18 {c : Nat} {kn pc rn sc : Int32} {t a2 a3 a4 a5 a6 a7 a8 : Nat → Int32} (h : rs_ok (c, kn, pc, rn, sc, t, a2, a3, a4, a5, a6, a7, a8)) (x2 x3 x4 z0 : Int32) :
    ∃ P' : rs_P, rs_ok P' ∧ ∀ a1 : Nat → Int32, (∀ i, i < c → a1 i = t i) → ∀ post : St1 → Prop, (∀ b1 : Nat → Int32, rs_ag P' b1 → post (rs_mk P' b1)) →
      wL_turn_18 post x2 x3 x4 z0 (nI c) kn pc rn sc a1 a2 a3 a4 a5 a6 a7 a8 := by
  by_cases c1 : 3 < x4
  · by_cases c2 : 5 < x4
    · by_cases c3 : x4 = 6
      · obtain ⟨r, P', hP', F⟩ := rs_rub h
        refine ⟨P', hP', fun a1 ha post H => ?_⟩
        unfold wL_turn_18
        exact nm_e ⟨by decide, nm_e (br_t c1 (br_t c2 (br_t c3 (F a1 ha _ (fun b1 hb => H b1 hb)))))⟩
      · by_cases c4 : 8 < x4
        · by_cases c5 : z0 = 0
          · obtain ⟨r, P', hP', F⟩ := rs_send h x2 x3 x2
            refine ⟨P', hP', fun a1 ha post H => ?_⟩
            unfold wL_turn_18
            exact nm_e ⟨by decide, nm_e (br_t c1 (br_t c2 (br_f c3 (br_t c4 (br_t c5 (br_t c5 (br_t c5 (F a1 ha _ (fun b1 hb => H b1 hb)))))))))⟩
          · obtain ⟨r, P', hP', F⟩ := rs_send h (x2 &&& 3) ((((x2 &&& 3) + 1) + (((x2 >>> ((2 : Int32) &&& 31)) &&& 255) - ((x2 >>> ((2 : Int32) &&& 31)) &&& 255) / 3 * 3)) &&& 3) (x3 &&& 1)
            refine ⟨P', hP', fun a1 ha post H => ?_⟩
            unfold wL_turn_18
            exact nm_e ⟨by decide, nm_e (br_t c1 (br_t c2 (br_f c3 (br_t c4 (br_f c5 (br_f c5 (br_f c5 (F a1 ha _ (fun b1 hb => H b1 hb)))))))))⟩
        · obtain ⟨r, P', hP', F⟩ := rs_start h
          refine ⟨P', hP', fun a1 ha post H => ?_⟩
          unfold wL_turn_18
          exact nm_e ⟨by decide, nm_e (br_t c1 (br_t c2 (br_f c3 (br_f c4 (F a1 ha _ (fun b1 hb => H b1 hb))))))⟩
    · obtain ⟨r, P', hP', F⟩ := rs_write h 0
      refine ⟨P', hP', fun a1 ha post H => ?_⟩
      unfold wL_turn_18
      exact nm_e ⟨by decide, nm_e (br_t c1 (br_f c2 (F a1 ha _ (fun b1 hb => H b1 hb))))⟩
  · by_cases c5 : z0 = 0
    · obtain ⟨r, P', hP', F⟩ := rs_write h x2
      refine ⟨P', hP', fun a1 ha post H => ?_⟩
      unfold wL_turn_18
      exact nm_e ⟨by decide, nm_e (br_f c1 (br_t c5 (F a1 ha _ (fun b1 hb => H b1 hb))))⟩
    · by_cases c6 : (x3 &&& 3) = 0
      · obtain ⟨r, P', hP', F⟩ := rs_write h ((17 + (x2 &&& 3)) + (4 * ((((x2 &&& 3) + 1) + (((x2 >>> ((2 : Int32) &&& 31)) &&& 255) - ((x2 >>> ((2 : Int32) &&& 31)) &&& 255) / 3 * 3)) &&& 3)))
        refine ⟨P', hP', fun a1 ha post H => ?_⟩
        unfold wL_turn_18
        refine nm_e ⟨by decide, nm_e (br_f c1 (br_f c5 (br_t c6 ?_)))⟩
        unfold wL_turn_67 wL_turn_79
        exact F a1 ha _ (fun b1 hb => H b1 hb)
      · obtain ⟨r, P', hP', F⟩ := rs_write h ((1 + (x2 &&& 3)) + (4 * ((((x2 &&& 3) + 1) + (((x2 >>> ((2 : Int32) &&& 31)) &&& 255) - ((x2 >>> ((2 : Int32) &&& 31)) &&& 255) / 3 * 3)) &&& 3)))
        refine ⟨P', hP', fun a1 ha post H => ?_⟩
        unfold wL_turn_18
        refine nm_e ⟨by decide, nm_e (br_f c1 (br_f c5 (br_f c6 ?_)))⟩
        unfold wL_turn_67 wL_turn_79
        exact F a1 ha _ (fun b1 hb => H b1 hb)
theorem rs_turn {P : rs_P} (h : rs_ok P) (p1 p2 p3 : Int32) :
    ∃ P' : rs_P, rs_ok P' ∧ ∀ a1 : Nat → Int32, rs_ag P a1 → ∀ post : St1 → Prop, (∀ b1 : Nat → Int32, rs_ag P' b1 → post (rs_mk P' b1)) → wpL_turn post (rs_mk P a1) p1 p2 p3 := by
  obtain ⟨c, kn, pc, rn, sc, t, a2, a3, a4, a5, a6, a7, a8⟩ := P
  by_cases e : (p1 &&& 16) = 0
  · obtain ⟨P', hP', F⟩ := rs_turn18 h p2 p3 (p1 &&& 15) 1
    refine ⟨P', hP', fun a1 ha post H => ?_⟩
    dsimp only [rs_c, rs_kn, rs_pc, rs_rn, rs_sc, rs_t, rs_a2, rs_a3, rs_a4, rs_a5, rs_a6, rs_a7, rs_a8, rs_mk, rs_ag]
    unfold wpL_turn
    dsimp only
    exact nm_e (br_t e (F a1 ha post H))
  · obtain ⟨P', hP', F⟩ := rs_turn18 h p2 p3 (p1 &&& 15) 0
    refine ⟨P', hP', fun a1 ha post H => ?_⟩
    dsimp only [rs_c, rs_kn, rs_pc, rs_rn, rs_sc, rs_t, rs_a2, rs_a3, rs_a4, rs_a5, rs_a6, rs_a7, rs_a8, rs_mk, rs_ag]
    unfold wpL_turn
    dsimp only
    exact nm_e (br_f e (F a1 ha post H))
theorem rs_as88 {c : Nat} {kn pc rn sc : Int32} {t a2 a3 a4 a5 a6 a7 a8 : Nat → Int32} (h : rs_ok (c, kn, pc, rn, sc, t, a2, a3, a4, a5, a6, a7, a8)) (x1 x2 : Int32) (a1 : Nat → Int32) (ha : ∀ i, i < c → a1 i = t i)
    (post : Int32 → St1 → Prop) (H : ∀ b1 : Nat → Int32, (∀ i, i < c → b1 i = t i) → post 1 (nI c, kn, pc, rn, sc, b1, a2, a3, a4, a5, a6, a7, a8)) :
    wL_aside_88 post x1 x2 1 (nI c) kn pc rn sc a1 a2 a3 a4 a5 a6 a7 a8 := by
  obtain ⟨r, hr, er⟩ := pk_andE (x1 >>> ((2 : Int32) &&& 31)) (m := 3) 2 (by decide)
  obtain ⟨s, hs, es⟩ := pk_andE (x1 >>> ((4 : Int32) &&& 31)) (m := 3) 2 (by decide)
  obtain ⟨y, hy, ey⟩ := pk_andE x2 (m := 1023) 10 (by decide)
  have hr : r < 4 := hr
  have hy : y < 1024 := hy
  have S1 := rs_sendN h (p0 := nI r) (p1 := nI s) (p2 := 2 + (x2 &&& 1023)) (fun r' s' l' h1 h2 h3 h4 e1 e2 e3 => by
    rw [ey, show (2 : Int32) + nI y = nI (2 + y) from nI_add 2 y, nI_eq (by omega) (by omega)] at e3
    omega)
  have S2 := rs_sendN h (p0 := nI r) (p1 := nI r) (p2 := 0) (fun r' s' l' h1 h2 h3 h4 e1 e2 e3 => by
    rw [nI_eq (by omega) (by omega)] at e1 e2
    omega)
  have S3 := rs_sendN h (p0 := 4 + (x2 &&& 1023)) (p1 := nI s) (p2 := 0) (fun r' s' l' h1 h2 h3 h4 e1 e2 e3 => by
    rw [ey, show (4 : Int32) + nI y = nI (4 + y) from nI_add 4 y, nI_eq (by omega) (by omega)] at e1
    omega)
  have S4 := rs_sendN h (p0 := nI r) (p1 := nI s) (p2 := (-1) - (x2 &&& 1023)) (fun r' s' l' h1 h2 h3 h4 e1 e2 e3 => by
    rw [ey] at e3
    have e4 : (-1 : Int32) - nI y + nI y = nI l' + nI y := by rw [e3]
    rw [Int32.sub_add_cancel, nI_add] at e4
    exact rs_nm1 (by omega) e4.symm)
  have W1 : rs_op (fun post u => wpX_write post u (33 + (x2 &&& 1023))) (c, kn, pc, rn, sc, t, a2, a3, a4, a5, a6, a7, a8) (-1) (c, kn, pc, rn, sc, t, a2, a3, a4, a5, a6, a7, a8) := by
    rw [ey, show (33 : Int32) + nI y = nI (33 + y) from nI_add 33 y]
    exact rs_writeN (rs_tbig (by omega) (by omega))
  have W2 : rs_op (fun post u => wpX_write post u (1 + (5 * nI r))) (c, kn, pc, rn, sc, t, a2, a3, a4, a5, a6, a7, a8) (-1) (c, kn, pc, rn, sc, t, a2, a3, a4, a5, a6, a7, a8) := by
    rw [show (5 : Int32) * nI r = nI (5 * r) from pk_mul 5 r, show (1 : Int32) + nI (5 * r) = nI (1 + 5 * r) from nI_add 1 (5 * r)]
    exact rs_writeN (rs_tself hr)
  unfold wL_aside_88
  exact nm_r er (nm_r es (S1 a1 ha _ (fun b1 hb => S2 b1 hb _ (fun b1 hb => S3 b1 hb _ (fun b1 hb => S4 b1 hb _ (fun b1 hb => W1 b1 hb _ (fun b1 hb => W2 b1 hb _ (fun b1 hb =>
    br_f (by decide) (br_t rfl (br_t rfl (br_t rfl (br_t rfl (br_t rfl (br_t rfl (H b1 hb)))))))))))))))
theorem rs_as38 {c : Nat} {pc sc : Int32} {t a2 a3 a4 a5 a6 a7 a8 : Nat → Int32} (h : rs_ok (c, 0, pc, 0, sc, t, a2, a3, a4, a5, a6, a7, a8)) (hn : ¬ rs_nd t c = 0) {k : Nat} (hk : k ≤ 32) (F : ∀ post : Int32 → Prop, post 1 → wpX_isToken post () (nI k)) (x1 x2 : Int32) (a1 : Nat → Int32) (ha : ∀ i, i < c → a1 i = t i)
    (post : Int32 → St1 → Prop) (H : ∀ b1 : Nat → Int32, (∀ i, i < c → b1 i = t i) → post 1 (nI c, 0, pc, 0, sc, b1, a2, a3, a4, a5, a6, a7, a8)) :
    wL_aside_38 post x1 x2 (nI k) (nI c) 0 pc 0 sc a1 a2 a3 a4 a5 a6 a7 a8 := by
  unfold wL_aside_38
  by_cases hc : c < 21
  · have W := rs_write1 h hk F hn hc
    have R := rs_rub1 (P := rs_wr (c, 0, pc, 0, sc, t, a2, a3, a4, a5, a6, a7, a8) (nI k)) (c := c) rfl hc
    refine W a1 ha _ (fun b1 hb => br_f (nI_nle (n := c + 1) (by omega) (by omega)) (R b1 hb _ (fun d1 hd => br_t pk_us ?_)))
    exact rs_as88 h x1 x2 d1 (fun i hi => by rw [hd i hi]; exact pk_un (Nat.ne_of_lt hi)) post H
  · have W := rs_writeF h F (Or.inr hc)
    exact W a1 ha _ (fun b1 hb => br_t (by decide) (br_t rfl (rs_as88 h x1 x2 b1 hb post H)))
theorem rs_aside {P : rs_P} (h : rs_ok P) (p1 p2 : Int32) : rs_op (fun post u => wpL_aside post u p1 p2) P 1 P := by
  obtain ⟨c, kn, pc, rn, sc, t, a2, a3, a4, a5, a6, a7, a8⟩ := P
  intro a1 ha post H
  have R := rs_runs h a1
  have h' := h
  obtain ⟨hT, hkn, hrn, hkr, hK⟩ := h'
  dsimp only [rs_c, rs_kn, rs_pc, rs_rn, rs_sc, rs_t, rs_a2, rs_a3, rs_a4, rs_a5, rs_a6, rs_a7, rs_a8, rs_mk, rs_ag] at R hT hkn hrn hkr hK ha H ⊢
  unfold wpL_aside
  dsimp only
  refine R _ (br_c (fun z => ?_) (fun z => rs_as88 h p1 p2 a1 ha post H))
  refine rs_complete hT ha (fun _ => br_f (by decide) (rs_as88 h p1 p2 a1 ha post H)) (fun n => br_t rfl ?_)
  have z' : rn = 0 := z
  have hk0 : kn = 0 := by
    rcases hkn with q | q
    · exact q
    · exact absurd (hK q).1 n
  subst z' hk0
  exact br_c (fun _ => rs_as38 h n (k := 0) (by omega) rs_t0 p1 p2 a1 ha post H) (fun _ => br_c (fun _ => rs_as38 h n (k := 2) (by omega) rs_t2 p1 p2 a1 ha post H) (fun _ => rs_as38 h n (k := 18) (by omega) rs_t18 p1 p2 a1 ha post H))
end
section
/-! alike -/
abbrev rs_mk2 (P : rs_P) (a1 b1 : Nat → Int32) : St3 := (nI (rs_c P), rs_kn P, rs_pc P, rs_rn P, rs_sc P, a1, rs_a2 P, rs_a3 P, rs_a4 P, rs_a5 P, rs_a6 P, rs_a7 P, rs_a8 P, nI (rs_c P), rs_kn P, rs_pc P, rs_rn P, rs_sc P, b1, rs_a2 P, rs_a3 P, rs_a4 P, rs_a5 P, rs_a6 P, rs_a7 P, rs_a8 P)
abbrev rs_J2 : Type := Int32 → Int32 → Int32 → Int32 → Int32 → Int32 → Int32 → (Nat → Int32) → (Nat → Int32) → (Nat → Int32) → (Nat → Int32) → (Nat → Int32) → (Nat → Int32) → (Nat → Int32) → (Nat → Int32) → Int32 → Int32 → Int32 → Int32 → Int32 → (Nat → Int32) → (Nat → Int32) → (Nat → Int32) → (Nat → Int32) → (Nat → Int32) → (Nat → Int32) → (Nat → Int32) → (Nat → Int32) → Prop
theorem rs_al157 {P : rs_P} (h : rs_ok P) (x3 : Int32) (a1 b1 : Nat → Int32) (post : Int32 → St3 → Prop) (J : rs_J2) (H : J 1 (x3 + 1) (nI (rs_c P)) (rs_kn P) (rs_pc P) (rs_rn P) (rs_sc P) a1 (rs_a2 P) (rs_a3 P) (rs_a4 P) (rs_a5 P) (rs_a6 P) (rs_a7 P) (rs_a8 P) (nI (rs_c P)) (rs_kn P) (rs_pc P) (rs_rn P) (rs_sc P) b1 (rs_a2 P) (rs_a3 P) (rs_a4 P) (rs_a5 P) (rs_a6 P) (rs_a7 P) (rs_a8 P)) :
    ∃ n, wL_alike_157 post J x3 (nI (rs_c P)) (rs_kn P) (rs_pc P) (rs_rn P) (rs_sc P) a1 (rs_a2 P) (rs_a3 P) (rs_a4 P) (rs_a5 P) (rs_a6 P) (rs_a7 P) (rs_a8 P) (nI (rs_c P)) (rs_kn P) (rs_pc P) (rs_rn P) (rs_sc P) b1 (rs_a2 P) (rs_a3 P) (rs_a4 P) (rs_a5 P) (rs_a6 P) (rs_a7 P) (rs_a8 P) n 1 0 :=
  pk_loop (σ := Unit) (fun n i _ => wL_alike_157 post J x3 (nI (rs_c P)) (rs_kn P) (rs_pc P) (rs_rn P) (rs_sc P) a1 (rs_a2 P) (rs_a3 P) (rs_a4 P) (rs_a5 P) (rs_a6 P) (rs_a7 P) (rs_a8 P) (nI (rs_c P)) (rs_kn P) (rs_pc P) (rs_rn P) (rs_sc P) b1 (rs_a2 P) (rs_a3 P) (rs_a4 P) (rs_a5 P) (rs_a6 P) (rs_a7 P) (rs_a8 P) n 1 (nI i)) (fun _ _ => True) 8 0 () (by omega) trivial
    (fun n _ _ => br_t (by decide) (nm_e H))
    (fun n i _ hi _ hw => by
      obtain ⟨r, F⟩ := rs_possQ h x3 (nI i >>> ((1 : Int32) &&& 31)) (nI i &&& 1)
      exact br_f (nI_ge (b := 8) hi (by decide)) (br_f (by decide) (F a1 _ (F b1 _ (br_t rfl (nm_r (nI_1 i) (hw () trivial)))))))
theorem rs_al74 : ∀ (m x : Nat) (P : rs_P), rs_ok P → x + m = 4 →
    ∃ P' : rs_P, rs_ok P' ∧ ∀ a1 b1 : Nat → Int32, rs_ag P a1 → rs_ag P b1 → ∀ post : Int32 → St3 → Prop, (∀ c1 d1 : Nat → Int32, rs_ag P' c1 → rs_ag P' d1 → post 1 (rs_mk2 P' c1 d1)) →
      wL_alike_74 post (m + 1) 1 (nI x) (nI (rs_c P)) (rs_kn P) (rs_pc P) (rs_rn P) (rs_sc P) a1 (rs_a2 P) (rs_a3 P) (rs_a4 P) (rs_a5 P) (rs_a6 P) (rs_a7 P) (rs_a8 P) (nI (rs_c P)) (rs_kn P) (rs_pc P) (rs_rn P) (rs_sc P) b1 (rs_a2 P) (rs_a3 P) (rs_a4 P) (rs_a5 P) (rs_a6 P) (rs_a7 P) (rs_a8 P) := by
  intro m
  induction m with
  | zero =>
    intro x P h hx
    have hx : x = 4 := by omega
    subst hx
    exact ⟨P, h, fun a1 b1 ha hb post H => br_t (by decide) (And.intro (rs_bool (Or.inr rfl)) (H a1 b1 ha hb))⟩
  | succ m ih =>
    intro x P h hx
    have hx4 : x < 4 := by omega
    obtain ⟨r1, P1, h1, -, F1⟩ := rs_fixed h hx4
    obtain ⟨r2, P2, h2, F2⟩ := rs_size h1 hx4
    obtain ⟨r3, F3⟩ := rs_duty h2 hx4
    obtain ⟨r4, F4⟩ := rs_labels h2 hx4
    obtain ⟨r5, F5⟩ := rs_rest h2 hx4
    obtain ⟨P', h', G⟩ := ih (x + 1) P2 h2 (by omega)
    refine ⟨P', h', fun a1 b1 ha hb post H => ?_⟩
    refine br_f (nI_ge (b := 4) hx4 (by decide)) (br_f (by decide) (F1 a1 ha _ (fun a1 ha => F1 b1 hb _ (fun b1 hb => br_t rfl (F2 a1 ha _ (fun a1 ha => F2 b1 hb _ (fun b1 hb => br_t rfl ?_)))))))
    refine F3 a1 _ (F3 b1 _ (br_t rfl (F4 a1 _ (F4 b1 _ (br_t rfl (F5 a1 _ (F5 b1 _ (br_t rfl ?_))))))))
    refine rs_al157 h2 (nI x) a1 b1 post _ ?_
    rw [nI_1]
    exact G a1 b1 ha hb post H
theorem rs_alike {P : rs_P} (h : rs_ok P) :
    ∃ P' : rs_P, rs_ok P' ∧ ∀ a1 b1 : Nat → Int32, rs_ag P a1 → rs_ag P b1 → ∀ post : Int32 → St3 → Prop, (∀ c1 d1 : Nat → Int32, rs_ag P' c1 → rs_ag P' d1 → post 1 (rs_mk2 P' c1 d1)) →
      wpL_alike post (rs_mk2 P a1 b1) := by
  obtain ⟨r1, P1, h1, -, F1⟩ := rs_fit h
  obtain ⟨r2, F2⟩ := rs_choices h1
  obtain ⟨r3, F3⟩ := rs_sent P1
  obtain ⟨r4, F4⟩ := rs_over P1
  obtain ⟨P', h', G⟩ := rs_al74 4 0 P1 h1 (by omega)
  refine ⟨P', h', fun a1 b1 ha hb post H => ?_⟩
  have K : ∀ post' : Int32 → Prop, (∀ r : Int32, (r = 1 ↔ rs_nd (rs_t P) (rs_c P) = 0) → (r = 0 ∨ r = 1) → post' r) → ∀ c1 : Nat → Int32, rs_ag P c1 → wpX_complete post' (rs_mk P c1) := by
    intro post' Hp c1 hc1
    exact rs_complete h.1 hc1 (fun z => Hp 1 ⟨fun _ => z, fun _ => rfl⟩ (Or.inr rfl)) (fun z => Hp 0 ⟨fun q => absurd q (by decide), fun q => absurd q z⟩ (Or.inl rfl))
  unfold wpL_alike
  dsimp only
  refine K _ (fun q1 e1 o1 => K _ (fun q2 e2 o2 => br_t ?_ ?_) b1 hb) a1 ha
  · rcases o1 with o1 | o1 <;> rcases o2 with o2 | o2
    · rw [o1, o2]
    · exact absurd (e1.mpr (e2.mp o2)) (by rw [o1]; decide)
    · exact absurd (e2.mpr (e1.mp o1)) (by rw [o2]; decide)
    · rw [o1, o2]
  · refine F1 a1 ha _ (fun a1 ha => F1 b1 hb _ (fun b1 hb => br_t rfl ?_))
    refine rs_runs h1 a1 _ (rs_runs h1 b1 _ (br_t rfl ?_))
    refine F2 a1 _ (F2 b1 _ (br_t rfl (F3 a1 _ (F3 b1 _ (br_t rfl (F4 a1 _ (F4 b1 _ (br_t rfl ?_))))))))
    exact ⟨5, G a1 b1 ha hb post H⟩
end
section
/-! the law -/
theorem rs_law (xs : Nat → Int32) (L kc ks : Nat) (hL : L ≤ 260) : ∀ (n k : Nat) (P : rs_P) (a1 b1 : Nat → Int32), rs_ok P → rs_ag P a1 → rs_ag P b1 → k ≤ 300 → L - k < n →
    wL_law_18 (fun r => r = 1) L xs kc ks n (nI k) (nI (rs_c P)) (rs_kn P) (rs_pc P) (rs_rn P) (rs_sc P) a1 (rs_a2 P) (rs_a3 P) (rs_a4 P) (rs_a5 P) (rs_a6 P) (rs_a7 P) (rs_a8 P) (nI (rs_c P)) (rs_kn P) (rs_pc P) (rs_rn P) (rs_sc P) b1 (rs_a2 P) (rs_a3 P) (rs_a4 P) (rs_a5 P) (rs_a6 P) (rs_a7 P) (rs_a8 P) := by
  intro n
  induction n with
  | zero =>
    intro k P a1 b1 _ _ _ _ hn
    exact absurd hn (by omega)
  | succ n ih =>
    intro k P a1 b1 h ha hb hk hn
    have e1 : nI k + 1 = nI (k + 1) := nI_1 k
    have e2 : nI k + 2 = nI (k + 2) := nI_add k 2
    have e3 : nI k + 3 = nI (k + 3) := nI_add k 3
    refine pk_le L (k + 2) (fun _ => rfl) (fun z => ?_) rfl e2
    have v0 : vp_in (nI k) L := pk_in k L (by omega)
    have v1 : vp_in (nI k + 1) L := pk_in (k + 1) L (by omega) e1
    have v2 : vp_in (nI k + 2) L := pk_in (k + 2) L (by omega) e2
    obtain ⟨P1, h1, F1⟩ := rs_turn h (xs (nI k).toNatClampNeg) (xs (nI k + 1).toNatClampNeg) (xs (nI k + 2).toNatClampNeg)
    have A := rs_aside h1 (xs (nI k + 1).toNatClampNeg) (xs (nI k + 2).toNatClampNeg)
    obtain ⟨P2, h2, F2⟩ := rs_alike h1
    refine ⟨v0, v1, v2, F1 a1 ha _ (fun a1 ha => ⟨v0, v1, v2, F1 b1 hb _ (fun b1 hb => ⟨v1, v2, A b1 hb _ (fun b1 hb => br_f (by decide) (F2 a1 b1 ha hb _ (fun a1 b1 ha hb => br_f (by decide) (nm_r e3 ?_))))⟩)⟩)⟩
    exact ih (k + 3) P2 a1 b1 h2 ha hb (by omega) (by omega)
theorem rs_ok0 : rs_ok (0, 0, 0, 0, 0, (fun _ => 0), (fun _ => 0), (fun _ => 0), (fun _ => 0), (fun _ => 0), (fun _ => 0), (fun _ => 0), (fun _ => 0)) :=
  ⟨⟨Nat.zero_le 21, fun j hj => absurd hj (Nat.not_lt_zero j), fun j hj => absurd hj (Nat.not_lt_zero j)⟩, Or.inl rfl, Or.inl rfl, fun _ => rfl, fun z => absurd z (by decide)⟩
theorem i_vc (xs : Nat → Int32) (L : Nat) (hL : L ≤ 260) : wpL_law (fun r => r = 1) L xs := by
  have K := rs_law xs L (1 + 8 + 1 + 8) (13 + 370 + 13 + 370) hL (L + 1) 0 (0, 0, 0, 0, 0, (fun _ => 0), (fun _ => 0), (fun _ => 0), (fun _ => 0), (fun _ => 0), (fun _ => 0), (fun _ => 0), (fun _ => 0)) (fun _ => 0) (fun _ => 0) rs_ok0 (fun i hi => absurd hi (Nat.not_lt_zero i)) (fun i hi => absurd hi (Nat.not_lt_zero i)) (by omega) (by omega)
  refine ⟨8, 370, by omega, by omega, ?_⟩
  unfold wpX_init
  dsimp only
  refine ⟨by omega, by omega, by omega, by omega, by omega, by omega, by omega, by omega, by omega, by omega, by omega, by omega, by omega, by omega, by omega, by omega, ?_⟩
  refine ⟨by omega, by omega, 8, 370, by omega, by omega, ?_⟩
  refine ⟨by omega, by omega, by omega, by omega, by omega, by omega, by omega, by omega, by omega, by omega, by omega, by omega, by omega, by omega, by omega, by omega, ?_⟩
  exact ⟨L + 1, K⟩
end
