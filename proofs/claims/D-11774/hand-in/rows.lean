section
/-- the copy, word by word -/
def qm_cp (M : Nat → Int32) (fr to : Nat) : Nat → Nat → Int32
  | 0 => M
  | i + 1 => upd (qm_cp M fr to i) (to + i) (qm_cp M fr to i (fr + i))
theorem qm_cp_out (M : Nat → Int32) (fr to : Nat) : ∀ i x, (x < to ∨ to + i ≤ x) → qm_cp M fr to i x = M x := by
  intro i
  induction i with
  | zero => intro x _; rfl
  | succ i ih =>
    intro x h
    show upd (qm_cp M fr to i) (to + i) (qm_cp M fr to i (fr + i)) x = M x
    rw [pk_un (by omega)]
    exact ih x (by omega)
theorem qm_cp_in (M : Nat → Int32) (fr to : Nat) : ∀ i j, j < i → qm_cp M fr to i (to + j) = qm_cp M fr to j (fr + j) := by
  intro i
  induction i with
  | zero => intro j h; exact absurd h (by omega)
  | succ i ih =>
    intro j h
    show upd (qm_cp M fr to i) (to + i) (qm_cp M fr to i (fr + i)) (to + j) = qm_cp M fr to j (fr + j)
    by_cases e : j = i
    · rw [e, pk_us]
    · rw [pk_un (by omega)]
      exact ih j (by omega)
theorem qm_cp_up {M : Nat → Int32} {fr to n j : Nat} (hd : fr < to) (hj : j < n) : qm_cp M fr to n (to + j) = qm_cp M fr to n (fr + j) := by
  rw [qm_cp_in M fr to n j hj]
  by_cases h : fr + j < to
  · rw [qm_cp_out M fr to j _ (Or.inl h), qm_cp_out M fr to n _ (Or.inl h)]
  · obtain ⟨t, ht⟩ : ∃ t, fr + j = to + t := ⟨fr + j - to, by omega⟩
    rw [ht, qm_cp_in M fr to j t (by omega), qm_cp_in M fr to n t (by omega)]
theorem qm_cp_dn {M : Nat → Int32} {fr to n j : Nat} (hd : to ≤ fr) (hj : j < n) : qm_cp M fr to n (to + j) = M (fr + j) := by
  rw [qm_cp_in M fr to n j hj, qm_cp_out M fr to j _ (Or.inr (by omega))]
/-- the fill after k rounds -/
def qm_fi (a st : Int32) (k w : Nat) : Int32 := if (16 ≤ w ∧ w < 16 + k) ∨ (24 ≤ w ∧ w < 24 + k) then a + nI (w - 16) * st else 0
theorem qm_fi_0 (a st : Int32) : qm_fi a st 0 = fun _ => 0 := by
  funext w
  unfold qm_fi
  rw [if_neg (by omega)]
theorem qm_fi_s {a st : Int32} {k : Nat} (hk : k < 8) : upd (upd (qm_fi a st k) (16 + k) (a + nI k * st)) (24 + k) (a + nI (8 + k) * st) = qm_fi a st (k + 1) := by
  funext w
  by_cases h1 : w = 24 + k
  · rw [h1, pk_us]
    unfold qm_fi
    rw [if_pos (by omega), show 24 + k - 16 = 8 + k by omega]
  · rw [pk_un h1]
    by_cases h2 : w = 16 + k
    · rw [h2, pk_us]
      unfold qm_fi
      rw [if_pos (by omega), show 16 + k - 16 = k by omega]
    · rw [pk_un h2]
      unfold qm_fi
      by_cases h3 : (16 ≤ w ∧ w < 16 + k) ∨ (24 ≤ w ∧ w < 24 + k)
      · rw [if_pos h3, if_pos (by omega)]
      · rw [if_neg h3, if_neg (by omega)]
theorem qm_fi_in {a st : Int32} {w : Nat} (h : 16 ≤ w) (h2 : w < 32) : qm_fi a st 8 w = a + nI (w - 16) * st := by
  unfold qm_fi
  rw [if_pos (by omega)]
theorem qm_fi_no {a st : Int32} {w : Nat} (h : w < 16 ∨ 32 ≤ w) : qm_fi a st 8 w = 0 := by
  unfold qm_fi
  rw [if_neg (by omega)]
/-- numbers -/
theorem qm_m1 {b : Nat} (hb : b < 2 ^ 31) : ¬ nI b = -1 := by
  intro e
  have h := nI_toInt hb
  rw [e, show (-1 : Int32).toInt = -1 from by decide] at h
  omega
theorem qm_inj {a b : Nat} (ha : a < 64) (hb : b < 64) (e : nI a = nI b) : a = b := (nI_eq (by omega) (by omega)).mp e
theorem qm_4 (l i : Nat) : (4 : Int32) * nI l + nI i = nI (4 * l + i) := by
  show nI 4 * nI l + nI i = nI (4 * l + i)
  rw [pk_mul, nI_add]
theorem qm_8 (l i : Nat) : (8 : Int32) * nI l + nI i = nI (8 * l + i) := by
  show nI 8 * nI l + nI i = nI (8 * l + i)
  rw [pk_mul, nI_add]
theorem qm_80 (i : Nat) : (8 : Int32) * 0 + nI i = nI i := by
  show nI 8 * nI 0 + nI i = nI i
  rw [pk_mul, nI_add, Nat.mul_zero, Nat.zero_add]
theorem qm_and3 {w : Nat} (h : w < 64) : nI w &&& 3 = nI (w % 4) := pk_andN (by omega) 2 (by decide)
theorem qm_and7 {w : Nat} (h : w < 64) : nI w &&& 7 = nI (w % 8) := pk_andN (by omega) 3 (by decide)
theorem qm_shr2 {w : Nat} (h : w < 64) : nI w >>> ((2 : Int32) &&& 31) = nI (w / 4) := pk_shrN (by omega) _ 2 (by decide)
theorem qm_shr3 {w : Nat} (h : w < 64) : nI w >>> ((3 : Int32) &&& 31) = nI (w / 8) := pk_shrN (by omega) _ 3 (by decide)
theorem qm_by : ∀ p, p < 32 → (nI p).toInt8.toInt32 = nI p := by decide +kernel
theorem qm_nb : ∀ f, f < 8 → vp_nar .byte (nI f) = nI f := by decide +kernel
theorem qm_nz {w : Int32} (h : w = 0 ∨ w = 1) : vp_nar .boolean w = w := by
  rcases h with h | h
  · rw [h]; rfl
  · rw [h]; rfl
/-- the cache over the memory M -/
def qm_L (C : Nat) (M a1 a7 a8 a9 : Nat → Int32) (l : Nat) : Prop := a7 l = -1 ∨ ∃ b, b < 16 ∧ b % C = l % 4 ∧ a7 l = nI b ∧ (∀ i, i < 4 → a9 (4 * l + i) = M (4 * b + i)) ∧ (a8 l = 0 → ∀ i, i < 4 → a1 (4 * b + i) = M (4 * b + i))
def qm_C (C : Nat) (M a1 a7 a8 a9 : Nat → Int32) : Prop := (∀ l, l < 8 → l % 4 < C → qm_L C M a1 a7 a8 a9 l) ∧ (∀ k, k < C → a7 k = a7 (4 + k) → a7 k = -1) ∧ (∀ b, b < 16 → ¬ a7 (b % C) = nI b → ¬ a7 (4 + b % C) = nI b → ∀ i, i < 4 → a1 (4 * b + i) = M (4 * b + i))
theorem qm_rd {C : Nat} {M a1 a7 a8 a9 : Nat → Int32} {l b i : Nat} (h : qm_C C M a1 a7 a8 a9) (hl : l < 8) (hk : l % 4 < C) (hb : b < 16) (e : a7 l = nI b) (hi : i < 4) : a9 (4 * l + i) = M (4 * b + i) := by
  rcases h.1 l hl hk with z | ⟨b', hb', _, e', h9, _⟩
  · rw [e] at z
    exact absurd z (qm_m1 (by omega))
  · have eb : b' = b := qm_inj (by omega) (by omega) (e'.symm.trans e)
    rw [← eb]
    exact h9 i hi
theorem qm_ev {C : Nat} {M a1 a1' a7 a8 a9 : Nat → Int32} {l : Nat} (h : qm_C C M a1 a7 a8 a9) (h1 : ∀ x, a1' x = a1 x ∨ a1' x = M x) (h2 : ∀ b, b < 16 → a7 l = nI b → ∀ i, i < 4 → a1' (4 * b + i) = M (4 * b + i)) : qm_C C M a1' (upd a7 l (-1)) (upd a8 l 0) a9 := by
  have hx : ∀ x, a1 x = M x → a1' x = M x := by
    intro x hx
    rcases h1 x with z | z
    · rw [z, hx]
    · exact z
  refine ⟨fun l' hl' hk' => ?_, fun k hk e => ?_, fun b hb n1 n2 i hi => ?_⟩
  · by_cases el : l' = l
    · exact Or.inl (by rw [el, pk_us])
    · rcases h.1 l' hl' hk' with z | ⟨b, hb, hbk, e, h9, h8⟩
      · exact Or.inl (by rw [pk_un el, z])
      · refine Or.inr ⟨b, hb, hbk, by rw [pk_un el, e], h9, fun z i hi => hx _ (h8 ?_ i hi)⟩
        rw [pk_un el] at z
        exact z
  · by_cases e1 : k = l
    · rw [e1, pk_us]
    · by_cases e2 : 4 + k = l
      · rw [e, e2, pk_us]
      · rw [pk_un e1, pk_un e2] at e
        rw [pk_un e1]
        exact h.2.1 k hk e
  · by_cases z : a7 l = nI b
    · exact h2 b hb z i hi
    · refine hx _ (h.2.2 b hb (fun q => ?_) (fun q => ?_) i hi)
      · by_cases e1 : b % C = l
        · rw [e1] at q
          exact z q
        · rw [pk_un e1] at n1
          exact n1 q
      · by_cases e1 : 4 + b % C = l
        · rw [e1] at q
          exact z q
        · rw [pk_un e1] at n2
          exact n2 q
theorem qm_two {C l b : Nat} (c0 : 0 < C) (c4 : C ≤ 4) (hl : l < 8) (hk : b % C = l % 4) : l = b % C ∨ l = 4 + b % C := by
  have := Nat.mod_lt b c0
  omega
theorem qm_put {C : Nat} {M a1 a7 a8 a9 : Nat → Int32} {b i : Nat} {v : Int32} (c0 : 0 < C) (c4 : C ≤ 4) (h : qm_C C M a1 a7 a8 a9) (n1 : ¬ a7 (b % C) = nI b) (n2 : ¬ a7 (4 + b % C) = nI b) (hi : i < 4) : qm_C C (upd M (4 * b + i) v) (upd a1 (4 * b + i) v) a7 a8 a9 := by
  refine ⟨fun l hl hk => ?_, h.2.1, fun b' hb' m1 m2 j hj => ?_⟩
  · rcases h.1 l hl hk with z | ⟨b', hb', hbk, e, h9, h8⟩
    · exact Or.inl z
    · have nb : b' ≠ b := by
        intro q
        rw [q] at hbk e
        rcases qm_two c0 c4 hl hbk with y | y
        · rw [y] at e
          exact n1 e
        · rw [y] at e
          exact n2 e
      refine Or.inr ⟨b', hb', hbk, e, fun j hj => ?_, fun z j hj => ?_⟩
      · rw [pk_un (by omega)]
        exact h9 j hj
      · rw [pk_un (by omega), pk_un (by omega)]
        exact h8 z j hj
  · by_cases q : 4 * b' + j = 4 * b + i
    · rw [q, pk_us, pk_us]
    · rw [pk_un q, pk_un q]
      exact h.2.2 b' hb' m1 m2 j hj
theorem qm_br {C : Nat} {M a1 a7 a8 a9 a9' : Nat → Int32} {b l : Nat} (c0 : 0 < C) (c4 : C ≤ 4) (h : qm_C C M a1 a7 a8 a9) (hb : b < 16) (hl : l < 8) (hk : l % 4 = b % C) (e : a7 l = -1) (n1 : ¬ a7 (b % C) = nI b) (n2 : ¬ a7 (4 + b % C) = nI b) (h1 : ∀ i, i < 4 → a9' (4 * l + i) = a1 (4 * b + i)) (h2 : ∀ x, (x < 4 * l ∨ 4 * l + 4 ≤ x) → a9' x = a9 x) : qm_C C M a1 (upd a7 l (nI b)) a8 a9' := by
  have hm := h.2.2 b hb n1 n2
  refine ⟨fun l' hl' hk' => ?_, fun k hkC q => ?_, fun b' hb' m1 m2 => h.2.2 b' hb' (fun q => ?_) (fun q => ?_)⟩
  · by_cases el : l' = l
    · rw [el]
      exact Or.inr ⟨b, hb, hk.symm, pk_us, fun i hi => (h1 i hi).trans (hm i hi), fun _ => hm⟩
    · rcases h.1 l' hl' hk' with z | ⟨b', hb', hbk, e', h9, h8⟩
      · exact Or.inl (by rw [pk_un el, z])
      · exact Or.inr ⟨b', hb', hbk, by rw [pk_un el, e'], fun i hi => (h2 _ (by omega)).trans (h9 i hi), h8⟩
  · by_cases e1 : k = l
    · rw [e1, pk_us, pk_un (by omega)] at q
      rw [show l = b % C by omega] at q
      exact absurd q.symm n2
    · by_cases e2 : 4 + k = l
      · rw [e2, pk_us, pk_un e1] at q
        rw [show k = b % C by omega] at q
        exact absurd q n1
      · rw [pk_un e1, pk_un e2] at q
        rw [pk_un e1]
        exact h.2.1 k hkC q
  · by_cases e1 : b' % C = l
    · rw [e1, e] at q
      exact qm_m1 (by omega) q.symm
    · rw [pk_un e1] at m1
      exact m1 q
  · by_cases e1 : 4 + b' % C = l
    · rw [e1, e] at q
      exact qm_m1 (by omega) q.symm
    · rw [pk_un e1] at m2
      exact m2 q
theorem qm_st {C : Nat} {M a1 a7 a8 a9 : Nat → Int32} {b l i : Nat} {v : Int32} (c0 : 0 < C) (c4 : C ≤ 4) (h : qm_C C M a1 a7 a8 a9) (hb : b < 16) (hl : l < 8) (hk : l % 4 = b % C) (e : a7 l = nI b) (hi : i < 4) : qm_C C (upd M (4 * b + i) v) a1 a7 (upd a8 l 1) (upd a9 (4 * l + i) v) := by
  have hC := Nat.mod_lt b c0
  have ht := qm_two c0 c4 hl hk.symm
  refine ⟨fun l' hl' hk' => ?_, h.2.1, fun b' hb' m1 m2 j hj => ?_⟩
  · by_cases el : l' = l
    · rw [el]
      refine Or.inr ⟨b, hb, hk.symm, e, fun j hj => ?_, fun z => ?_⟩
      · by_cases q : j = i
        · rw [q, pk_us, pk_us]
        · rw [pk_un (by omega), pk_un (by omega)]
          exact qm_rd h hl (by omega) hb e hj
      · rw [pk_us] at z
        exact absurd z (by decide)
    · rcases h.1 l' hl' hk' with z | ⟨b', hb', hbk, e', h9, h8⟩
      · exact Or.inl z
      · have nb : b' ≠ b := by
          intro q
          rw [q] at hbk e'
          have hq : a7 (b % C) = nI b ∧ a7 (4 + b % C) = nI b := by
            rcases ht with y | y
            · rcases qm_two c0 c4 hl' hbk with y' | y'
              · exact absurd (y'.trans y.symm) el
              · exact ⟨y ▸ e, y' ▸ e'⟩
            · rcases qm_two c0 c4 hl' hbk with y' | y'
              · exact ⟨y' ▸ e', y ▸ e⟩
              · exact absurd (y'.trans y.symm) el
          exact qm_m1 (by omega) (hq.1.symm.trans (h.2.1 (b % C) hC (hq.1.trans hq.2.symm)))
        refine Or.inr ⟨b', hb', hbk, e', fun j hj => ?_, fun z j hj => ?_⟩
        · rw [pk_un (by omega), pk_un (by omega)]
          exact h9 j hj
        · rw [pk_un el] at z
          rw [pk_un (by omega)]
          exact h8 z j hj
  · have nb : b' ≠ b := by
      intro q
      rw [q] at m1 m2
      rcases ht with y | y
      · rw [y] at e
        exact m1 e
      · rw [y] at e
        exact m2 e
    rw [pk_un (by omega)]
    exact h.2.2 b' hb' m1 m2 j hj
/-- the kept translations over the entries F, W -/
def qm_g (F W a4 a5 a6 : Nat → Int32) (k : Nat) : Prop := a4 k = -1 ∨ ∃ e, e < 32 ∧ a4 k = nI e ∧ a5 k = F e ∧ a6 k = W e ∧ ∃ f, f < 8 ∧ F e = nI f
def qm_T (K : Nat) (F W a4 a5 a6 : Nat → Int32) : Prop := ∀ k, k < K → qm_g F W a4 a5 a6 k
def qm_E (F W : Nat → Int32) : Prop := ∀ e, e < 32 → (F e = -1 ∨ ∃ f, f < 8 ∧ F e = nI f) ∧ (W e = 0 ∨ W e = 1)
theorem qm_E_up {F W : Nat → Int32} {p : Nat} {x w : Int32} (h : qm_E F W) (hx : x = -1 ∨ ∃ f, f < 8 ∧ x = nI f) (hw : w = 0 ∨ w = 1) : qm_E (upd F p x) (upd W p w) := by
  intro e he
  by_cases q : e = p
  · rw [q, pk_us, pk_us]
    exact ⟨hx, hw⟩
  · rw [pk_un q, pk_un q]
    exact h e he
theorem qm_E_F {F W : Nat → Int32} {p : Nat} {x : Int32} (h : qm_E F W) (hx : x = -1 ∨ ∃ f, f < 8 ∧ x = nI f) : qm_E (upd F p x) W := by
  intro e he
  refine ⟨?_, (h e he).2⟩
  by_cases q : e = p
  · rw [q, pk_us]
    exact hx
  · rw [pk_un q]
    exact (h e he).1
theorem qm_E_W {F W : Nat → Int32} {p : Nat} {w : Int32} (h : qm_E F W) (hw : w = 0 ∨ w = 1) : qm_E F (upd W p w) := by
  intro e he
  refine ⟨(h e he).1, ?_⟩
  by_cases q : e = p
  · rw [q, pk_us]
    exact hw
  · rw [pk_un q]
    exact (h e he).2
/-- what is kept of another entry stands when one entry changes -/
theorem qm_g_up {F W F' W' a4 a5 a6 : Nat → Int32} {p k : Nat} (h : qm_g F W a4 a5 a6 k) (hF : ∀ e, e ≠ p → F' e = F e) (hW : ∀ e, e ≠ p → W' e = W e) : a4 k = nI p ∨ qm_g F' W' a4 a5 a6 k := by
  rcases h with z | ⟨e, he, e4, e5, e6, f, hf, ef⟩
  · exact Or.inr (Or.inl z)
  · by_cases q : e = p
    · exact Or.inl (by rw [e4, q])
    · exact Or.inr (Or.inr ⟨e, he, e4, by rw [e5, hF e q], by rw [e6, hW e q], f, hf, by rw [hF e q, ef]⟩)
theorem qm_g_keep {F W a4 a4' a5 a6 : Nat → Int32} {k : Nat} (h : qm_g F W a4 a5 a6 k) (e : a4' k = a4 k) : qm_g F W a4' a5 a6 k := by
  unfold qm_g
  rw [e]
  exact h
theorem qm_T_new {K : Nat} {F W a4 a5 a6 : Nat → Int32} {n p f : Nat} (h : qm_T K F W a4 a5 a6) (hp : p < 32) (hf : f < 8) (ef : F p = nI f) : qm_T K F W (upd a4 n (nI p)) (upd a5 n (F p)) (upd a6 n (W p)) := by
  intro k hk
  by_cases q : k = n
  · rw [q]
    exact Or.inr ⟨p, hp, pk_us, pk_us, pk_us, f, hf, ef⟩
  · rcases h k hk with z | ⟨e, he, e4, e5, e6, g⟩
    · exact Or.inl (by rw [pk_un q, z])
    · exact Or.inr ⟨e, he, by rw [pk_un q, e4], by rw [pk_un q, e5], by rw [pk_un q, e6], g⟩
/-- a state that matches the picture -/
def qm_R (K C : Nat) (F W M : Nat → Int32) (la : Int32) (u : St2) : Prop := match u with
  | (cu, l0, kc, nk, lc, a1, a2, a3, a4, a5, a6, a7, a8, a9, a10) => cu = 0 ∧ l0 = la ∧ kc = nI K ∧ lc = nI C ∧ 0 < K ∧ K ≤ 4 ∧ 0 < C ∧ C ≤ 4 ∧ (∃ n, n < K ∧ nk = nI n) ∧ a2 = F ∧ a3 = W ∧ qm_E F W ∧ qm_T K F W a4 a5 a6 ∧ qm_C C M a1 a7 a8 a9
end
section
section
variable {K C : Nat} {F W M : Nat → Int32} {la : Int32} {cu l0 kc nk lc : Int32} {a1 a2 a3 a4 a5 a6 a7 a8 a9 a10 : Nat → Int32}
theorem qm_lineWith {post : Int32 → Prop} {b : Nat} (c0 : 0 < C) (c4 : C ≤ 4) (hb : b < 16) (H1 : ∀ l, l < 8 → l % 4 = b % C → a7 l = nI b → post (nI l)) (H0 : ¬ a7 (b % C) = nI b → ¬ a7 (4 + b % C) = nI b → post (-1)) : wpX_lineWith post (cu, l0, kc, nk, nI C, a1, a2, a3, a4, a5, a6, a7, a8, a9, a10) (nI b) := by
  have hC := Nat.mod_lt b c0
  have e4 : (4 : Int32) + nI (b % C) = nI (4 + b % C) := nI_add 4 (b % C)
  unfold wpX_lineWith
  refine ⟨nI_ne0 c0 (by omega), nm_r (pk_rem (by omega) c0 (by omega)) ⟨pk_in (b % C) 8 (by omega), ?_⟩⟩
  rw [e4, nI_clamp (show b % C < 2 ^ 31 by omega), nI_clamp (show 4 + b % C < 2 ^ 31 by omega)]
  exact br_c (fun h => H1 (b % C) (by omega) (by omega) h) (fun h => ⟨pk_in (4 + b % C) 8 (by omega), br_c (fun h2 => H1 (4 + b % C) (by omega) (by omega) h2) (fun h2 => H0 h h2)⟩)
theorem qm_dread {post : Int32 → Prop} {u : St2} {w : Nat} (h : qm_R K C F W M la u) (hw : w < 64) (hp : post (M w)) : wpX_deviceRead post u (nI w) := by
  obtain ⟨cu, l0, kc, nk, lc, a1, a2, a3, a4, a5, a6, a7, a8, a9, a10⟩ := u
  obtain ⟨rfl, rfl, rfl, rfl, k0, k4, c0, c4, ⟨n, hn, rfl⟩, rfl, rfl, hE, hT, hC⟩ := h
  have hmod := Nat.mod_lt (w / 4) c0
  refine br_f (nI_pos (by omega)) (br_t (nI_le (b := 63) (by omega) (by decide)) ?_)
  rw [qm_shr2 hw]
  refine qm_lineWith c0 c4 (by omega) (fun l hl hk e => ?_) (fun n1 n2 => ?_)
  · refine br_f (nI_pos (by omega)) ?_
    rw [qm_and3 hw, qm_4, nI_clamp (show 4 * l + w % 4 < 2 ^ 31 by omega), qm_rd hC hl (by omega) (show w / 4 < 16 by omega) e (show w % 4 < 4 by omega), show 4 * (w / 4) + w % 4 = w by omega]
    exact ⟨vp_in_nI (by omega) (by omega), hp⟩
  · refine br_t (by decide) ?_
    have hm := hC.2.2 (w / 4) (by omega) n1 n2 (w % 4) (by omega)
    rw [show 4 * (w / 4) + w % 4 = w by omega] at hm
    rw [nI_clamp (show w < 2 ^ 31 by omega), hm]
    exact ⟨pk_in w 64 hw, hp⟩
theorem qm_evict {post : St2 → Prop} {l : Nat} (hC : qm_C C M a1 a7 a8 a9) (hl : l < 8) (hk : l % 4 < C) (H : ∀ b1, qm_C C M b1 (upd a7 l (-1)) (upd a8 l 0) a9 → post (cu, l0, kc, nk, lc, b1, a2, a3, a4, a5, a6, upd a7 l (-1), upd a8 l 0, a9, a10)) : wpX_evict post (cu, l0, kc, nk, lc, a1, a2, a3, a4, a5, a6, a7, a8, a9, a10) (nI l) := by
  have cl : (nI l).toNatClampNeg = l := nI_clamp (by omega)
  have fin : ∀ b1, (∀ x, b1 x = a1 x ∨ b1 x = M x) → (∀ b, b < 16 → a7 l = nI b → ∀ i, i < 4 → b1 (4 * b + i) = M (4 * b + i)) → wX_evict_56 post (nI l) cu l0 kc nk lc b1 a2 a3 a4 a5 a6 a7 a8 a9 a10 := by
    intro b1 h1 h2
    unfold wX_evict_56
    rw [cl]
    exact ⟨pk_in l 8 hl, nm_e ⟨pk_in l 8 hl, nm_e (H b1 (qm_ev hC h1 h2))⟩⟩
  unfold wpX_evict
  dsimp only
  rw [cl]
  refine ⟨pk_in l 8 hl, ?_⟩
  rcases hC.1 l hl hk with e | ⟨b, hb, hbk, e, h9, h8⟩
  · exact br_t (by rw [e]; decide) (fin a1 (fun x => Or.inl rfl) (fun b hb eb => absurd (eb.symm.trans e) (qm_m1 (by omega))))
  · have uq : ∀ b', b' < 16 → a7 l = nI b' → b' = b := fun b' hb' eb => qm_inj (by omega) (by omega) (eb.symm.trans e)
    refine br_f (by rw [e]; exact nI_pos (by omega)) ⟨pk_in l 8 hl, br_c (fun hd => fin a1 (fun x => Or.inl rfl) (fun b' hb' eb => by rw [uq b' hb' eb]; exact h8 hd)) (fun hd => ?_)⟩
    refine pk_loop (fun n i s => wX_evict_20 post (nI l) cu l0 kc nk lc n (nI i) s a2 a3 a4 a5 a6 a7 a8 a9 a10) (fun i s => (∀ x, s x = a1 x ∨ s x = M x) ∧ ∀ j, j < i → s (4 * b + j) = M (4 * b + j)) 4 0 a1 (by omega) ⟨fun x => Or.inl rfl, fun j hj => absurd hj (by omega)⟩ ?_ ?_
    · intro n s h
      exact pk_le 4 4 (fun _ => fin s h.1 (fun b' hb' eb => by rw [uq b' hb' eb]; exact h.2)) (fun z => absurd z (by omega))
    · intro n i s hi h hw
      refine pk_le 4 i (fun z => absurd z (by omega)) (fun _ => ?_)
      rw [cl, e, qm_4, qm_4, nI_clamp (show 4 * l + i < 2 ^ 31 by omega), nI_clamp (show 4 * b + i < 2 ^ 31 by omega), h9 i hi]
      refine ⟨pk_in l 8 hl, vp_in_nI (by omega) (by omega), vp_in_nI (by omega) (by omega), nm_e (nm_r (nI_1 i) (hw _ ⟨fun x => ?_, fun j hj => ?_⟩))⟩
      · by_cases q : x = 4 * b + i
        · rw [q, pk_us]
          exact Or.inr rfl
        · rw [pk_un q]
          exact h.1 x
      · by_cases q : j = i
        · rw [q, pk_us]
        · rw [pk_un (by omega)]
          exact h.2 j (by omega)
theorem qm_dwrite {post : Int32 → St2 → Prop} {u : St2} {w : Nat} {v : Int32} (h : qm_R K C F W M la u) (hw : w < 64) (hp : ∀ u', qm_R K C F W (upd M w v) la u' → post 0 u') : wpX_deviceWrite post u (nI w) v := by
  obtain ⟨cu, l0, kc, nk, lc, a1, a2, a3, a4, a5, a6, a7, a8, a9, a10⟩ := u
  obtain ⟨rfl, rfl, rfl, rfl, k0, k4, c0, c4, ⟨n, hn, rfl⟩, rfl, rfl, hE, hT, hC⟩ := h
  have hmod := Nat.mod_lt (w / 4) c0
  have ew : 4 * (w / 4) + w % 4 = w := by omega
  have cl : (nI w).toNatClampNeg = w := nI_clamp (by omega)
  refine br_f (nI_pos (by omega)) (br_t (nI_le (b := 63) (by omega) (by decide)) ?_)
  rw [qm_shr2 hw, cl]
  refine qm_lineWith c0 c4 (by omega) (fun l hl hk e => ?_) (fun n1 n2 => ?_)
  · have ht := qm_two c0 c4 hl hk.symm
    have nb : ¬ nI (w / 4) = -1 := qm_m1 (by omega)
    have nn : ¬ (a7 (w / 4 % C) = nI (w / 4) ∧ a7 (4 + w / 4 % C) = nI (w / 4)) := fun q => nb (q.1.symm.trans (hC.2.1 _ hmod (q.1.trans q.2.symm)))
    refine br_f (nI_pos (by omega)) (qm_evict hC hl (by omega) (fun b1 hC' => ?_))
    refine ⟨pk_in w 64 hw, nm_e (hp _ ⟨rfl, rfl, rfl, rfl, k0, k4, c0, c4, ⟨n, hn, rfl⟩, rfl, rfl, hE, hT, ?_⟩)⟩
    have hr := qm_put (v := v) (i := w % 4) (b := w / 4) c0 c4 hC' (fun q => ?_) (fun q => ?_) (by omega)
    · rw [ew] at hr
      exact hr
    · rcases ht with y | y
      · rw [← y, pk_us] at q
        exact nb q.symm
      · rw [pk_un (by omega)] at q
        exact nn ⟨q, y ▸ e⟩
    · rcases ht with y | y
      · rw [pk_un (by omega)] at q
        exact nn ⟨y ▸ e, q⟩
      · rw [← y, pk_us] at q
        exact nb q.symm
  · refine br_t (by decide) ⟨pk_in w 64 hw, nm_e (hp _ ⟨rfl, rfl, rfl, rfl, k0, k4, c0, c4, ⟨n, hn, rfl⟩, rfl, rfl, hE, hT, ?_⟩)⟩
    have hr := qm_put (v := v) (i := w % 4) c0 c4 hC n1 n2 (by omega)
    rw [ew] at hr
    exact hr
theorem qm_dcopyL {post : Int32 → St2 → Prop} {fr to cn : Nat} (hf : fr + cn ≤ 64) (ht : to + cn ≤ 64) (hp : ∀ u', qm_R K C F W (qm_cp M fr to cn) la u' → post (nI cn) u') : ∀ (n i : Nat) (cu l0 kc nk lc : Int32) (a1 a2 a3 a4 a5 a6 a7 a8 a9 a10 : Nat → Int32), i ≤ cn → cn - i < n → qm_R K C F W (qm_cp M fr to i) la (cu, l0, kc, nk, lc, a1, a2, a3, a4, a5, a6, a7, a8, a9, a10) → wX_deviceCopy_47 post (nI fr) (nI to) (nI cn) n (nI i) cu l0 kc nk lc a1 a2 a3 a4 a5 a6 a7 a8 a9 a10 := by
  intro n
  induction n with
  | zero => intros; omega
  | succ n ih =>
    intro i cu l0 kc nk lc a1 a2 a3 a4 a5 a6 a7 a8 a9 a10 hi hn h
    refine pk_le cn i (fun z => ?_) (fun z => ?_)
    · have e : i = cn := by omega
      rw [e] at h
      exact hp _ h
    · rw [nI_add fr i, nI_add to i]
      refine qm_dread h (by omega) ?_
      refine qm_dwrite h (by omega) ?_
      rintro ⟨cu', l0', kc', nk', lc', a1', a2', a3', a4', a5', a6', a7', a8', a9', a10'⟩ h'
      exact nm_r (nI_1 i) (ih (i + 1) cu' l0' kc' nk' lc' a1' a2' a3' a4' a5' a6' a7' a8' a9' a10' (by omega) (by omega) h')
theorem qm_dcopy {post : Int32 → St2 → Prop} {u : St2} {fr to cn : Nat} (h : qm_R K C F W M la u) (hf : fr + cn ≤ 64) (ht : to + cn ≤ 64) (hp : ∀ u', qm_R K C F W (qm_cp M fr to cn) la u' → post (nI cn) u') : wpX_deviceCopy post u (nI fr) (nI to) (nI cn) := by
  obtain ⟨cu, l0, kc, nk, lc, a1, a2, a3, a4, a5, a6, a7, a8, a9, a10⟩ := u
  have e1 : (64 : Int32) - nI fr = nI (64 - fr) := pk_sub (a := 64) (by omega)
  have e2 : (64 : Int32) - nI to = nI (64 - to) := pk_sub (a := 64) (by omega)
  unfold wpX_deviceCopy
  dsimp only
  rw [e1, e2]
  exact br_f (nI_pos (by omega)) (br_f (nI_pos (by omega)) (br_t (nI_pos' (by omega)) (br_f (nI_nlt (a := 64) (by omega) (by decide)) (br_f (nI_nlt (a := 64) (by omega) (by decide)) (br_f (nI_nlt (by omega) (by omega)) (br_t (nI_le (by omega) (by omega)) ⟨cn + 1, qm_dcopyL hf ht hp (cn + 1) 0 cu l0 kc nk lc a1 a2 a3 a4 a5 a6 a7 a8 a9 a10 (by omega) (by omega) h⟩))))))
theorem qm_dcopyB {post : Int32 → St2 → Prop} {u : St2} {fr to : Nat} (hf : fr < 40) (ht : to < 40) (hp : post (-1) u) : wpX_deviceCopy post u (nI fr) (nI to) (65 - nI to) := by
  obtain ⟨cu, l0, kc, nk, lc, a1, a2, a3, a4, a5, a6, a7, a8, a9, a10⟩ := u
  have e1 : (64 : Int32) - nI fr = nI (64 - fr) := pk_sub (a := 64) (by omega)
  have e2 : (64 : Int32) - nI to = nI (64 - to) := pk_sub (a := 64) (by omega)
  have e3 : (65 : Int32) - nI to = nI (65 - to) := pk_sub (a := 65) (by omega)
  unfold wpX_deviceCopy
  dsimp only
  rw [e1, e2, e3]
  exact br_f (nI_pos (by omega)) (br_f (nI_pos (by omega)) (br_t (nI_pos' (by omega)) (br_f (nI_nlt (a := 64) (by omega) (by decide)) (br_f (nI_nlt (a := 64) (by omega) (by decide)) (br_c (fun _ => hp) (fun _ => br_f (nI_ge (by omega) (by omega)) hp))))))
theorem qm_bring {post : Int32 → St2 → Prop} {u : St2} {b : Nat} (h : qm_R K C F W M la u) (hb : b < 16) (H : ∀ (l : Nat) (cu l0 kc nk lc : Int32) (a1 a2 a3 a4 a5 a6 a7 a8 a9 a10 : Nat → Int32), l < 8 → l % 4 = b % C → a7 l = nI b → qm_R K C F W M la (cu, l0, kc, nk, lc, a1, a2, a3, a4, a5, a6, a7, a8, a9, a10) → post (nI l) (cu, l0, kc, nk, lc, a1, a2, a3, a4, a5, a6, a7, a8, a9, a10)) : wpX_bringIn post u (nI b) := by
  obtain ⟨cu, l0, kc, nk, lc, a1, a2, a3, a4, a5, a6, a7, a8, a9, a10⟩ := u
  obtain ⟨rfl, rfl, rfl, rfl, k0, k4, c0, c4, ⟨n, hn, rfl⟩, rfl, rfl, hE, hT, hC⟩ := h
  have hmod := Nat.mod_lt b c0
  have e4 : (4 : Int32) + nI (b % C) = nI (4 + b % C) := nI_add 4 (b % C)
  have clk : (nI (b % C)).toNatClampNeg = b % C := nI_clamp (by omega)
  unfold wpX_bringIn
  refine ⟨nI_ne0 c0 (by omega), nm_r (pk_rem (by omega) c0 (by omega)) ?_⟩
  rw [e4, clk]
  refine qm_lineWith c0 c4 hb (fun l hl hk e => ?_) (fun n1 n2 => ?_)
  · exact br_t (nI_pos' (by omega)) ⟨pk_in (b % C) 4 (by omega), nm_e (H l _ _ _ _ _ _ _ _ _ _ _ _ _ _ _ hl hk e ⟨rfl, rfl, rfl, rfl, k0, k4, c0, c4, ⟨n, hn, rfl⟩, rfl, rfl, hE, hT, hC⟩)⟩
  · have sub : ∀ l, l < 8 → l % 4 = b % C → wX_bringIn_33 post (nI b) (nI (b % C)) (nI l) 0 l0 (nI K) (nI n) (nI C) a1 a2 a3 a4 a5 a6 a7 a8 a9 a10 := by
      intro l hl hk
      have cl : (nI l).toNatClampNeg = l := nI_clamp (by omega)
      have nb : ¬ nI b = -1 := qm_m1 (by omega)
      unfold wX_bringIn_33
      rw [cl, qm_by b (by omega)]
      refine qm_evict hC hl (by omega) (fun b1 hC' => ⟨pk_in l 8 hl, nm_e ?_⟩)
      refine pk_loop (fun m i s => wX_bringIn_50 post (nI b) (nI (b % C)) (nI l) 0 l0 (nI K) (nI n) (nI C) m (nI i) b1 a2 a3 a4 a5 a6 (upd (upd a7 l (-1)) l (nI b)) (upd a8 l 0) s a10) (fun i s => (∀ j, j < i → s (4 * l + j) = b1 (4 * b + j)) ∧ ∀ x, (x < 4 * l ∨ 4 * l + 4 ≤ x) → s x = a9 x) 4 0 a9 (by omega) ⟨fun j hj => absurd hj (by omega), fun x _ => rfl⟩ ?_ ?_
      · intro m s hs
        refine pk_le 4 4 (fun _ => ?_) (fun z => absurd z (by omega))
        refine ⟨pk_in (b % C) 4 (by omega), nm_e (H l _ _ _ _ _ _ _ _ _ _ _ _ _ _ _ hl hk pk_us ⟨rfl, rfl, rfl, rfl, k0, k4, c0, c4, ⟨n, hn, rfl⟩, rfl, rfl, hE, hT, ?_⟩)⟩
        refine qm_br c0 c4 hC' hb hl hk pk_us (fun q => ?_) (fun q => ?_) hs.1 hs.2
        · by_cases y : b % C = l
          · rw [y, pk_us] at q
            exact nb q.symm
          · rw [pk_un y] at q
            exact n1 q
        · by_cases y : 4 + b % C = l
          · rw [y, pk_us] at q
            exact nb q.symm
          · rw [pk_un y] at q
            exact n2 q
      · intro m i s hi hs hw
        refine pk_le 4 i (fun z => absurd z (by omega)) (fun _ => ?_)
        rw [qm_4, qm_4, nI_clamp (show 4 * l + i < 2 ^ 31 by omega), nI_clamp (show 4 * b + i < 2 ^ 31 by omega)]
        refine ⟨vp_in_nI (by omega) (by omega), vp_in_nI (by omega) (by omega), nm_e (nm_r (nI_1 i) (hw _ ⟨fun j hj => ?_, fun x hx => ?_⟩))⟩
        · by_cases q : j = i
          · rw [q, pk_us]
          · rw [pk_un (by omega)]
            exact hs.1 j (by omega)
        · rw [pk_un (by omega)]
          exact hs.2 x hx
    exact br_f (by decide) ⟨pk_in (b % C) 4 (by omega), br_c (fun _ => sub (4 + b % C) (by omega) (by omega)) (fun _ => sub (b % C) (by omega) (by omega))⟩
end
end
section
section
variable {K C : Nat} {F W M : Nat → Int32} {la : Int32} {cu l0 kc nk lc : Int32} {a1 a2 a3 a4 a5 a6 a7 a8 a9 a10 : Nat → Int32}
theorem qm_transS {post : Int32 → St2 → Prop} {u : St2} {p f : Nat} (h : qm_R K C F W M la u) (hp : p < 8) (hf : f < 8) (ef : F p = nI f) (H : ∀ (k : Nat) (cu l0 kc nk lc : Int32) (a1 a2 a3 a4 a5 a6 a7 a8 a9 a10 : Nat → Int32), k < 4 → qm_R K C F W M la (cu, l0, kc, nk, lc, a1, a2, a3, a4, a5, a6, a7, a8, a9, a10) → a5 k = F p → a6 k = W p → post (nI k) (cu, l0, kc, nk, lc, a1, a2, a3, a4, a5, a6, a7, a8, a9, a10)) : wpX_translation post u (nI p) := by
  obtain ⟨cu, l0, kc, nk, lc, a1, a2, a3, a4, a5, a6, a7, a8, a9, a10⟩ := u
  obtain ⟨rfl, rfl, rfl, rfl, k0, k4, c0, c4, ⟨n, hn, rfl⟩, rfl, rfl, hE, hT, hC⟩ := h
  have clp : (nI p).toNatClampNeg = p := nI_clamp (by omega)
  have cln : (nI n).toNatClampNeg = n := nI_clamp (by omega)
  have new : ∀ n', n' < K → wX_translation_78 post (nI p) (nI n) (nI n') 0 l0 (nI K) (nI n) (nI C) a1 a2 a3 a4 a5 a6 a7 a8 a9 a10 := by
    intro n' hn'
    unfold wX_translation_78
    rw [cln, clp, qm_by p (by omega), qm_nz (hE p (by omega)).2, show vp_nar .byte (a2 p) = a2 p by rw [ef]; exact qm_nb f hf]
    exact ⟨pk_in n 4 (by omega), nm_e ⟨pk_in p 32 (by omega), pk_in n 4 (by omega), nm_e ⟨pk_in p 32 (by omega), pk_in n 4 (by omega), nm_e (H n _ _ _ _ _ _ _ _ _ _ _ _ _ _ _ (by omega) ⟨rfl, rfl, rfl, rfl, k0, k4, c0, c4, ⟨n', hn', rfl⟩, rfl, rfl, hE, qm_T_new hT (by omega) hf ef, hC⟩ pk_us pk_us)⟩⟩⟩
  unfold wpX_translation
  refine nm_r (qm_80 p) ?_
  refine pk_loop (σ := Unit) (fun m i _ => wX_translation_12 post (nI p) 0 l0 (nI K) (nI n) (nI C) a1 a2 a3 a4 a5 a6 a7 a8 a9 a10 m (nI i)) (fun _ _ => True) K 0 () (by omega) trivial ?_ ?_
  · intro m _ _
    refine pk_le K K (fun _ => ?_) (fun z => absurd z (by omega))
    rw [clp, nI_1 n]
    exact ⟨pk_in p 32 (by omega), br_t (by rw [ef]; exact nI_pos' (by omega)) (pk_le K (n + 1) (fun _ => new 0 (by omega)) (fun z => new (n + 1) z))⟩
  · intro m i _ hi _ hw
    refine pk_le K i (fun z => absurd z (by omega)) (fun _ => ?_)
    rw [nI_clamp (show i < 2 ^ 31 by omega)]
    refine ⟨pk_in i 4 (by omega), br_c (fun e => ?_) (fun _ => nm_r (nI_1 i) (hw () trivial))⟩
    rcases hT i hi with z | ⟨e', he', q4, q5, q6, _⟩
    · exact absurd (e.symm.trans z) (qm_m1 (by omega))
    · have ee : e' = p := qm_inj (by omega) (by omega) (q4.symm.trans e)
      rw [ee] at q5 q6
      exact H i _ _ _ _ _ _ _ _ _ _ _ _ _ _ _ (by omega) ⟨rfl, rfl, rfl, rfl, k0, k4, c0, c4, ⟨n, hn, rfl⟩, rfl, rfl, hE, hT, hC⟩ q5 q6
theorem qm_transN {post : Int32 → St2 → Prop} {u : St2} {p : Nat} (h : qm_R K C F W M la u) (hp : p < 8) (ef : F p = -1) (H : post (-1) u) : wpX_translation post u (nI p) := by
  obtain ⟨cu, l0, kc, nk, lc, a1, a2, a3, a4, a5, a6, a7, a8, a9, a10⟩ := u
  obtain ⟨rfl, rfl, rfl, rfl, k0, k4, c0, c4, ⟨n, hn, rfl⟩, rfl, rfl, hE, hT, hC⟩ := h
  have clp : (nI p).toNatClampNeg = p := nI_clamp (by omega)
  unfold wpX_translation
  refine nm_r (qm_80 p) ?_
  refine pk_loop (σ := Unit) (fun m i _ => wX_translation_12 post (nI p) 0 l0 (nI K) (nI n) (nI C) a1 a2 a3 a4 a5 a6 a7 a8 a9 a10 m (nI i)) (fun _ _ => True) K 0 () (by omega) trivial ?_ ?_
  · intro m _ _
    refine pk_le K K (fun _ => ?_) (fun z => absurd z (by omega))
    rw [clp]
    exact ⟨pk_in p 32 (by omega), br_f (by rw [ef]; decide) H⟩
  · intro m i _ hi _ hw
    refine pk_le K i (fun z => absurd z (by omega)) (fun _ => ?_)
    rw [nI_clamp (show i < 2 ^ 31 by omega)]
    refine ⟨pk_in i 4 (by omega), br_c (fun e => ?_) (fun _ => nm_r (nI_1 i) (hw () trivial))⟩
    rcases hT i hi with z | ⟨e', he', q4, q5, q6, f, hf, qf⟩
    · exact absurd (e.symm.trans z) (qm_m1 (by omega))
    · have ee : e' = p := qm_inj (by omega) (by omega) (q4.symm.trans e)
      rw [ee, ef] at qf
      exact absurd qf.symm (qm_m1 (by omega))
theorem qm_load {post : Int32 → St2 → Prop} {u : St2} {x : Int32} {p j f : Nat} (h : qm_R K C F W M la u) (hx : x = nI (8 * p + j)) (hp : p < 8) (hj : j < 8) (hf : f < 8) (ef : F p = nI f) (H : ∀ u', qm_R K C F W M (M (8 * f + j)) u' → post 0 u') : wpX_load post u x := by
  obtain ⟨cu, l0, kc, nk, lc, a1, a2, a3, a4, a5, a6, a7, a8, a9, a10⟩ := u
  rw [hx]
  unfold wpX_load
  refine br_f (nI_pos (by omega)) (br_t (nI_le (b := 63) (by omega) (by decide)) ?_)
  rw [qm_shr3 (by omega), qm_and7 (by omega), show (8 * p + j) / 8 = p by omega, show (8 * p + j) % 8 = j by omega]
  refine qm_transS h hp hf ef ?_
  intro k cu l0 kc nk lc a1 a2 a3 a4 a5 a6 a7 a8 a9 a10 hk h' q5 q6
  have e5 : (8 : Int32) * a5 (nI k).toNatClampNeg + nI j = nI (8 * f + j) := by rw [nI_clamp (by omega), q5, ef, qm_8]
  refine br_t (nI_pos' (by omega)) ⟨pk_in k 4 hk, nm_r e5 ?_⟩
  rw [qm_shr2 (by omega), qm_and3 (by omega)]
  refine qm_bring h' (by omega) ?_
  intro l cu' l0' kc' nk' lc' a1' a2' a3' a4' a5' a6' a7' a8' a9' a10' hl hlk e7 h2
  obtain ⟨r1, r2, r3, r4, k0, k4, c0, c4, r5, r6, r7, hE, hT, hC⟩ := h2
  have hmod := Nat.mod_lt ((8 * f + j) / 4) c0
  have e9 : a9' ((4 : Int32) * nI l + nI ((8 * f + j) % 4)).toNatClampNeg = M (8 * f + j) := by
    rw [qm_4, nI_clamp (by omega), qm_rd hC hl (by omega) (show (8 * f + j) / 4 < 16 by omega) e7 (by omega), show 4 * ((8 * f + j) / 4) + (8 * f + j) % 4 = 8 * f + j by omega]
  exact ⟨pk_in (4 * l + (8 * f + j) % 4) 32 (by omega) (qm_4 _ _), nm_r e9 (H _ ⟨r1, rfl, r3, r4, k0, k4, c0, c4, r5, r6, r7, hE, hT, hC⟩)⟩
theorem qm_loadN {post : Int32 → St2 → Prop} {u : St2} {x : Int32} {p j : Nat} (h : qm_R K C F W M la u) (hx : x = nI (8 * p + j)) (hp : p < 8) (hj : j < 8) (ef : F p = -1) (H : post (-2) u) : wpX_load post u x := by
  obtain ⟨cu, l0, kc, nk, lc, a1, a2, a3, a4, a5, a6, a7, a8, a9, a10⟩ := u
  rw [hx]
  unfold wpX_load
  refine br_f (nI_pos (by omega)) (br_t (nI_le (b := 63) (by omega) (by decide)) ?_)
  rw [qm_shr3 (by omega), show (8 * p + j) / 8 = p by omega]
  exact qm_transN h hp ef (br_f (by decide) H)
theorem qm_changeR {post : Int32 → St2 → Prop} {u : St2} {x v m : Int32} {p j f : Nat} (h : qm_R K C F W M la u) (hx : x = nI (8 * p + j)) (hp : p < 8) (hj : j < 8) (hf : f < 8) (ef : F p = nI f) (ew : W p = 0) (H : ∀ u', qm_R K C F W M la u' → post (-3) u') : wpX_change post u x v m := by
  obtain ⟨cu, l0, kc, nk, lc, a1, a2, a3, a4, a5, a6, a7, a8, a9, a10⟩ := u
  rw [hx]
  unfold wpX_change
  refine br_f (nI_pos (by omega)) (br_t (nI_le (b := 63) (by omega) (by decide)) ?_)
  rw [qm_shr3 (by omega), show (8 * p + j) / 8 = p by omega]
  refine qm_transS h hp hf ef ?_
  intro k cu l0 kc nk lc a1 a2 a3 a4 a5 a6 a7 a8 a9 a10 hk h' q5 q6
  exact br_t (nI_pos' (by omega)) ⟨pk_in k 4 hk, br_t (by rw [nI_clamp (by omega), q6, ew]) (H _ h')⟩
theorem qm_changeW {post : Int32 → St2 → Prop} {u : St2} {x v : Int32} {p j f : Nat} (h : qm_R K C F W M la u) (hx : x = nI (8 * p + j)) (hp : p < 8) (hj : j < 8) (hf : f < 8) (ef : F p = nI f) (ew : W p = 1) (H : ∀ u', qm_R K C F W (upd M (8 * f + j) v) la u' → post 0 u') : wpX_change post u x v 0 := by
  obtain ⟨cu, l0, kc, nk, lc, a1, a2, a3, a4, a5, a6, a7, a8, a9, a10⟩ := u
  rw [hx]
  unfold wpX_change
  refine br_f (nI_pos (by omega)) (br_t (nI_le (b := 63) (by omega) (by decide)) ?_)
  rw [qm_shr3 (by omega), qm_and7 (by omega), show (8 * p + j) / 8 = p by omega, show (8 * p + j) % 8 = j by omega]
  refine qm_transS h hp hf ef ?_
  intro k cu l0 kc nk lc a1 a2 a3 a4 a5 a6 a7 a8 a9 a10 hk h' q5 q6
  have e5 : (8 : Int32) * a5 (nI k).toNatClampNeg + nI j = nI (8 * f + j) := by rw [nI_clamp (by omega), q5, ef, qm_8]
  refine br_t (nI_pos' (by omega)) ⟨pk_in k 4 hk, br_f (by rw [nI_clamp (by omega), q6, ew]; decide) ⟨pk_in k 4 hk, nm_r e5 ?_⟩⟩
  rw [qm_shr2 (by omega), qm_and3 (by omega)]
  refine qm_bring h' (by omega) ?_
  intro l cu' l0' kc' nk' lc' a1' a2' a3' a4' a5' a6' a7' a8' a9' a10' hl hlk e7 h2
  obtain ⟨r1, r2, r3, r4, k0, k4, c0, c4, r5, r6, r7, hE, hT, hC⟩ := h2
  refine nm_r (qm_4 _ _) (br_t rfl ?_)
  unfold wX_change_103
  rw [nI_clamp (show 4 * l + (8 * f + j) % 4 < 2 ^ 31 by omega), nI_clamp (show l < 2 ^ 31 by omega)]
  refine ⟨vp_in_nI (by omega) (by omega), nm_e ⟨pk_in l 8 hl, nm_e (H _ ⟨r1, r2, r3, r4, k0, k4, c0, c4, r5, r6, r7, hE, hT, ?_⟩)⟩⟩
  have hr := qm_st (v := v) (i := (8 * f + j) % 4) c0 c4 hC (show (8 * f + j) / 4 < 16 by omega) hl hlk e7 (by omega)
  rw [show 4 * ((8 * f + j) / 4) + (8 * f + j) % 4 = 8 * f + j by omega] at hr
  exact hr
theorem qm_storeR {post : Int32 → St2 → Prop} {u : St2} {x v : Int32} {p j f : Nat} (h : qm_R K C F W M la u) (hx : x = nI (8 * p + j)) (hp : p < 8) (hj : j < 8) (hf : f < 8) (ef : F p = nI f) (ew : W p = 0) (H : ∀ u', qm_R K C F W M la u' → post (-3) u') : wpX_store post u x v := by
  obtain ⟨cu, l0, kc, nk, lc, a1, a2, a3, a4, a5, a6, a7, a8, a9, a10⟩ := u
  refine qm_changeR h hx hp hj hf ef ew ?_
  rintro ⟨cu', l0', kc', nk', lc', a1', a2', a3', a4', a5', a6', a7', a8', a9', a10'⟩ h'
  exact H _ h'
theorem qm_addR {post : Int32 → St2 → Prop} {u : St2} {x v : Int32} {p j f : Nat} (h : qm_R K C F W M la u) (hx : x = nI (8 * p + j)) (hp : p < 8) (hj : j < 8) (hf : f < 8) (ef : F p = nI f) (ew : W p = 0) (H : ∀ u', qm_R K C F W M la u' → post (-3) u') : wpX_add post u x v := by
  obtain ⟨cu, l0, kc, nk, lc, a1, a2, a3, a4, a5, a6, a7, a8, a9, a10⟩ := u
  refine qm_changeR h hx hp hj hf ef ew ?_
  rintro ⟨cu', l0', kc', nk', lc', a1', a2', a3', a4', a5', a6', a7', a8', a9', a10'⟩ h'
  exact H _ h'
theorem qm_storeW {post : Int32 → St2 → Prop} {u : St2} {x v : Int32} {p j f : Nat} (h : qm_R K C F W M la u) (hx : x = nI (8 * p + j)) (hp : p < 8) (hj : j < 8) (hf : f < 8) (ef : F p = nI f) (ew : W p = 1) (H : ∀ u', qm_R K C F W (upd M (8 * f + j) v) la u' → post 0 u') : wpX_store post u x v := by
  obtain ⟨cu, l0, kc, nk, lc, a1, a2, a3, a4, a5, a6, a7, a8, a9, a10⟩ := u
  refine qm_changeW h hx hp hj hf ef ew ?_
  rintro ⟨cu', l0', kc', nk', lc', a1', a2', a3', a4', a5', a6', a7', a8', a9', a10'⟩ h'
  exact H _ h'
theorem qm_forget {post : St2 → Prop} {p : Nat} (k4 : K ≤ 4) (hT : ∀ k, k < K → a4 k = nI p ∨ qm_g F W a4 a5 a6 k) (H : ∀ b4, qm_T K F W b4 a5 a6 → post (cu, l0, nI K, nk, lc, a1, a2, a3, b4, a5, a6, a7, a8, a9, a10)) : wpX_forget post (cu, l0, nI K, nk, lc, a1, a2, a3, a4, a5, a6, a7, a8, a9, a10) (nI p) := by
  unfold wpX_forget
  refine pk_loop (fun m i s => wX_forget_2 post (nI p) cu l0 (nI K) nk lc m (nI i) a1 a2 a3 s a5 a6 a7 a8 a9 a10) (fun i s => (∀ k, k < i → qm_g F W s a5 a6 k) ∧ ∀ k, i ≤ k → k < K → s k = nI p ∨ qm_g F W s a5 a6 k) K 0 a4 (by omega) ⟨fun k hk => absurd hk (by omega), fun k _ hk => hT k hk⟩ ?_ ?_
  · intro m s hs
    exact pk_le K K (fun _ => H s hs.1) (fun z => absurd z (by omega))
  · intro m i s hi hs hw
    refine pk_le K i (fun z => absurd z (by omega)) (fun _ => ?_)
    rw [nI_clamp (show i < 2 ^ 31 by omega)]
    refine ⟨pk_in i 4 (by omega), br_c (fun e => ⟨pk_in i 4 (by omega), nm_e (nm_r (nI_1 i) (hw _ ⟨fun k hk => ?_, fun k hk hk' => ?_⟩))⟩) (fun e => nm_r (nI_1 i) (hw _ ⟨fun k hk => ?_, fun k hk hk' => hs.2 k (by omega) hk'⟩))⟩
    · by_cases q : k = i
      · rw [q]
        exact Or.inl pk_us
      · exact qm_g_keep (hs.1 k (by omega)) (pk_un q)
    · have q : k ≠ i := by omega
      rcases hs.2 k (by omega) hk' with z | z
      · exact Or.inl (by rw [pk_un q, z])
      · exact Or.inr (qm_g_keep z (pk_un q))
    · by_cases q : k = i
      · rw [q]
        rcases hs.2 i (by omega) hi with z | z
        · exact absurd z e
        · exact z
      · exact hs.1 k (by omega)
theorem qm_map {post : Int32 → St2 → Prop} {u : St2} {x y w : Int32} {p f : Nat} (h : qm_R K C F W M la u) (hx : x = nI p) (hy : y = nI f) (hp : p < 8) (hf : f < 8) (hw : w = 0 ∨ w = 1) (H0 : F p = -1 → ∀ u', qm_R K C (upd F p (nI f)) (upd W p w) M la u' → post 0 u') (H1 : ¬ F p = -1 → ∀ u', qm_R K C (upd F p (nI f)) (upd W p w) M la u' → post 1 u') : wpX_map post u 0 x y w := by
  obtain ⟨cu, l0, kc, nk, lc, a1, a2, a3, a4, a5, a6, a7, a8, a9, a10⟩ := u
  rw [hx, hy]
  obtain ⟨rfl, rfl, rfl, rfl, k0, k4, c0, c4, ⟨n, hn, rfl⟩, rfl, rfl, hE, hT, hC⟩ := h
  have clp : (nI p).toNatClampNeg = p := nI_clamp (by omega)
  have go : ∀ z, (∀ u', qm_R K C (upd a2 p (nI f)) (upd a3 p w) M l0 u' → post z u') → wX_map_44 post (nI f) w (nI p) z 0 l0 (nI K) (nI n) (nI C) a1 a2 a3 a4 a5 a6 a7 a8 a9 a10 := by
    intro z Hz
    unfold wX_map_44
    rw [clp, qm_by f (by omega), qm_nz hw]
    refine ⟨pk_in p 32 (by omega), nm_e ⟨pk_in p 32 (by omega), nm_e ?_⟩⟩
    refine qm_forget (F := upd a2 p (nI f)) (W := upd a3 p w) k4 (fun k hk => qm_g_up (hT k hk) (fun e he => pk_un he) (fun e he => pk_un he)) (fun b4 hb4 => ?_)
    exact Hz _ ⟨rfl, rfl, rfl, rfl, k0, k4, c0, c4, ⟨n, hn, rfl⟩, rfl, rfl, qm_E_up hE (Or.inr ⟨f, hf, rfl⟩) hw, hb4, hC⟩
  unfold wpX_map
  dsimp only
  unfold wpX_isPage
  dsimp only
  refine br_f (by decide) (br_f (by decide) (br_f (nI_pos (by omega)) (br_f (nI_nlt (a := 7) (by omega) (by decide)) ?_)))
  refine br_f (by decide) (br_f (nI_pos (by omega)) (br_t (nI_le (b := 7) (by omega) (by decide)) (nm_r (qm_80 p) ⟨pk_in p 32 (by omega), ?_⟩)))
  rw [clp]
  rcases (hE p (by omega)).1 with e | ⟨g, hg, e⟩
  · exact br_f (by rw [e]; decide) (go 0 (H0 e))
  · exact br_t (by rw [e]; exact nI_pos' (by omega)) (go 1 (H1 (by rw [e]; exact qm_m1 (by omega))))
theorem qm_unmap {post : Int32 → St2 → Prop} {u : St2} {x : Int32} {p f : Nat} (h : qm_R K C F W M la u) (hx : x = nI p) (hp : p < 8) (hf : f < 8) (ef : F p = nI f) (H : ∀ u', qm_R K C (upd F p (-1)) W M la u' → post 0 u') : wpX_unmap post u 0 x := by
  obtain ⟨cu, l0, kc, nk, lc, a1, a2, a3, a4, a5, a6, a7, a8, a9, a10⟩ := u
  rw [hx]
  obtain ⟨rfl, rfl, rfl, rfl, k0, k4, c0, c4, ⟨n, hn, rfl⟩, rfl, rfl, hE, hT, hC⟩ := h
  have clp : (nI p).toNatClampNeg = p := nI_clamp (by omega)
  unfold wpX_unmap
  dsimp only
  unfold wpX_isPage
  dsimp only
  refine br_f (by decide) (br_f (by decide) (br_f (nI_pos (by omega)) (br_f (nI_nlt (a := 7) (by omega) (by decide)) ?_)))
  refine br_f (by decide) (nm_r (qm_80 p) ⟨pk_in p 32 (by omega), ?_⟩)
  rw [clp]
  refine br_t (by rw [ef]; exact nI_pos' (by omega)) ⟨pk_in p 32 (by omega), nm_e ?_⟩
  refine qm_forget (F := upd a2 p (-1)) (W := a3) k4 (fun k hk => qm_g_up (hT k hk) (fun e he => pk_un he) (fun e he => rfl)) (fun b4 hb4 => ?_)
  exact H _ ⟨rfl, rfl, rfl, rfl, k0, k4, c0, c4, ⟨n, hn, rfl⟩, rfl, rfl, qm_E_F hE (Or.inl rfl), hb4, hC⟩
theorem qm_unmapN {post : Int32 → St2 → Prop} {u : St2} {x : Int32} {p : Nat} (h : qm_R K C F W M la u) (hx : x = nI p) (hp : p < 8) (ef : F p = -1) (H : post (-2) u) : wpX_unmap post u 0 x := by
  obtain ⟨cu, l0, kc, nk, lc, a1, a2, a3, a4, a5, a6, a7, a8, a9, a10⟩ := u
  rw [hx]
  obtain ⟨rfl, rfl, rfl, rfl, k0, k4, c0, c4, ⟨n, hn, rfl⟩, rfl, rfl, hE, hT, hC⟩ := h
  have clp : (nI p).toNatClampNeg = p := nI_clamp (by omega)
  unfold wpX_unmap
  dsimp only
  unfold wpX_isPage
  dsimp only
  refine br_f (by decide) (br_f (by decide) (br_f (nI_pos (by omega)) (br_f (nI_nlt (a := 7) (by omega) (by decide)) ?_)))
  refine br_f (by decide) (nm_r (qm_80 p) ⟨pk_in p 32 (by omega), ?_⟩)
  rw [clp]
  exact br_f (by rw [ef]; decide) H
theorem qm_protL {post : Int32 → St2 → Prop} (hF : ∀ j, 0 < j → j < 32 → ¬ F j = 3 ∨ W j = 0) (H : ∀ u', qm_R K C F W M la u' → post 1 u') : ∀ (m i : Nat) (cu l0 kc nk lc : Int32) (a1 a2 a3 a4 a5 a6 a7 a8 a9 a10 : Nat → Int32), 0 < i → i ≤ 32 → 32 - i < m → qm_R K C F W M la (cu, l0, kc, nk, lc, a1, a2, a3, a4, a5, a6, a7, a8, a9, a10) → wX_protect_16 post 3 m 1 (nI i) cu l0 kc nk lc a1 a2 a3 a4 a5 a6 a7 a8 a9 a10 := by
  intro m
  induction m with
  | zero => intros; omega
  | succ m ih =>
    intro i cu l0 kc nk lc a1 a2 a3 a4 a5 a6 a7 a8 a9 a10 h0 hi hm h
    refine pk_le 32 i (fun z => H _ h) (fun z => ?_)
    have h' := h
    obtain ⟨rfl, rfl, rfl, rfl, k0, k4, c0, c4, ⟨n, hn, rfl⟩, rfl, rfl, hE, hT, hC⟩ := h'
    have next := ih (i + 1) _ _ _ _ _ _ _ _ _ _ _ _ _ _ _ (by omega) (by omega) (by omega) h
    rw [nI_clamp (show i < 2 ^ 31 by omega)]
    rcases hF i h0 z with e | e
    · exact ⟨pk_in i 32 z, br_f e (nm_r (nI_1 i) next)⟩
    · exact ⟨pk_in i 32 z, br_c (fun _ => ⟨pk_in i 32 z, br_t e (nm_r (nI_1 i) next)⟩) (fun _ => nm_r (nI_1 i) next)⟩
theorem qm_prot {post : Int32 → St2 → Prop} {u : St2} (h : qm_R K C F W M la u) (hF : ∀ j, 0 < j → j < 32 → ¬ F j = 3 ∨ W j = 0) (ef : F 0 = 3) (ew : W 0 = 1) (H : ∀ u', qm_R K C F (upd W 0 0) M la u' → post 1 u') : wpX_protect post u 3 := by
  obtain ⟨cu, l0, kc, nk, lc, a1, a2, a3, a4, a5, a6, a7, a8, a9, a10⟩ := u
  obtain ⟨rfl, rfl, rfl, rfl, k0, k4, c0, c4, ⟨n, hn, rfl⟩, rfl, rfl, hE, hT, hC⟩ := h
  unfold wpX_protect
  refine br_f (by decide) (br_t (by decide) ⟨34, ?_⟩)
  refine pk_le 32 0 (fun z => absurd z (by omega)) (fun _ => ?_)
  rw [sb_cl0]
  refine ⟨pk_in 0 32 (by omega), br_t ef ⟨pk_in 0 32 (by omega), br_f (by rw [ew]; decide) ⟨pk_in 0 32 (by omega), nm_e ?_⟩⟩⟩
  refine qm_forget (p := 0) (F := a2) (W := upd a3 0 0) k4 (fun k hk => qm_g_up (hT k hk) (fun e he => rfl) (fun e he => pk_un he)) (fun b4 hb4 => ?_)
  refine nm_r (e' := 1) (by decide) (nm_r (nI_1 0) ?_)
  refine qm_protL (F := a2) (W := upd a3 0 0) (fun j h0 hj => ?_) H 33 1 _ _ _ _ _ _ _ _ _ _ _ _ _ _ _ (by omega) (by omega) (by omega) ⟨rfl, rfl, rfl, rfl, k0, k4, c0, c4, ⟨n, hn, rfl⟩, rfl, rfl, qm_E_W hE (Or.inl rfl), hb4, hC⟩
  rw [pk_un (by omega)]
  exact hF j h0 hj
end
end
section
section
variable {post : St2 → Prop} {mc ms q1 q2 : Nat} {cu l0 kc nk lc : Int32} {a1 a2 a3 a4 a5 a6 a7 a8 a9 a10 : Nat → Int32}
theorem qm_fl {s : Nat → Int32} {i k : Nat} (e : k = i) (h : ∀ j, j < i → s j = -1) : ∀ j, j < i + 1 → upd s k (-1) j = -1 := by
  intro j hj
  rw [e]
  by_cases q : j = i
  · rw [q, pk_us]
  · rw [pk_un q]
    exact h j (by omega)
theorem qm_i169 (H : ∀ b7, (∀ j, j < 8 → b7 j = -1) → post (cu, l0, kc, nk, lc, a1, a2, a3, a4, a5, a6, b7, a8, a9, a10)) : ∃ n, wX_init_169 post mc ms q1 q2 cu l0 kc nk lc n 0 a1 a2 a3 a4 a5 a6 a7 a8 a9 a10 :=
  pk_loop (fun n i s => wX_init_169 post mc ms q1 q2 cu l0 kc nk lc n (nI i) a1 a2 a3 a4 a5 a6 s a8 a9 a10) (fun i s => ∀ j, j < i → s j = -1) 8 0 a7 (by omega) (fun j hj => absurd hj (by omega))
    (fun n s h => pk_le 8 8 (fun _ => H s h) (fun z => absurd z (by omega)))
    (fun n i s hi h hw => pk_le 8 i (fun z => absurd z (by omega)) (fun _ => ⟨pk_in i 8 (by omega), nm_e (nm_r (nI_1 i) (hw _ (qm_fl (nI_clamp (by omega)) h)))⟩))
theorem qm_i149 (H : ∀ b4 b7, (∀ j, j < 4 → b4 j = -1) → (∀ j, j < 8 → b7 j = -1) → post (cu, l0, kc, nk, lc, a1, a2, a3, b4, a5, a6, b7, a8, a9, a10)) : ∃ n, wX_init_149 post mc ms q1 q2 cu l0 kc nk lc n 0 a1 a2 a3 a4 a5 a6 a7 a8 a9 a10 :=
  pk_loop (fun n i s => wX_init_149 post mc ms q1 q2 cu l0 kc nk lc n (nI i) a1 a2 a3 s a5 a6 a7 a8 a9 a10) (fun i s => ∀ j, j < i → s j = -1) 4 0 a4 (by omega) (fun j hj => absurd hj (by omega))
    (fun n s h => pk_le 4 4 (fun _ => qm_i169 (fun b7 h7 => H s b7 h h7)) (fun z => absurd z (by omega)))
    (fun n i s hi h hw => pk_le 4 i (fun z => absurd z (by omega)) (fun _ => ⟨pk_in i 4 (by omega), nm_e (nm_r (nI_1 i) (hw _ (qm_fl (nI_clamp (by omega)) h)))⟩))
theorem qm_i128 (H : ∀ b2 b4 b7, (∀ j, j < 32 → b2 j = -1) → (∀ j, j < 4 → b4 j = -1) → (∀ j, j < 8 → b7 j = -1) → post (cu, l0, kc, nk, lc, a1, b2, a3, b4, a5, a6, b7, a8, a9, a10)) : ∃ n, wX_init_128 post mc ms q1 q2 cu l0 kc nk lc n 0 a1 a2 a3 a4 a5 a6 a7 a8 a9 a10 :=
  pk_loop (fun n i s => wX_init_128 post mc ms q1 q2 cu l0 kc nk lc n (nI i) a1 s a3 a4 a5 a6 a7 a8 a9 a10) (fun i s => ∀ j, j < i → s j = -1) 32 0 a2 (by omega) (fun j hj => absurd hj (by omega))
    (fun n s h => pk_le 32 32 (fun _ => qm_i149 (fun b4 b7 h4 h7 => H s b4 b7 h h4 h7)) (fun z => absurd z (by omega)))
    (fun n i s hi h hw => pk_le 32 i (fun z => absurd z (by omega)) (fun _ => ⟨pk_in i 32 (by omega), nm_e (nm_r (nI_1 i) (hw _ (qm_fl (nI_clamp (by omega)) h)))⟩))
theorem qm_i128R {K : Nat} {z : Int32} (hz : z = nI K) (k0 : 0 < K) (k4 : K ≤ 4) (H : ∀ K F u', (∀ j, j < 32 → F j = -1) → qm_R K K F (fun _ => 0) (fun _ => 0) 0 u' → post u') : ∃ n, wX_init_128 post mc ms q1 q2 0 0 z 0 z n 0 (fun _ => 0) (fun _ => 0) (fun _ => 0) (fun _ => 0) (fun _ => 0) (fun _ => 0) (fun _ => 0) (fun _ => 0) (fun _ => 0) (fun _ => 0) := by
  rw [hz]
  refine qm_i128 (fun b2 b4 b7 h2 h4 h7 => H K b2 _ h2 ⟨rfl, rfl, rfl, rfl, k0, k4, k0, k4, ⟨0, k0, rfl⟩, rfl, rfl, ?_, ?_, ?_⟩)
  · exact fun e he => ⟨Or.inl (h2 e he), Or.inl rfl⟩
  · exact fun k hk => Or.inl (h4 k (by omega))
  · exact ⟨fun l hl _ => Or.inl (h7 l hl), fun k hk _ => h7 k (by omega), fun b hb _ _ i hi => rfl⟩
theorem qm_init {x : Int32} (hm : 10 ≤ mc) (hs : 192 ≤ ms) (H : ∀ K F u', (∀ j, j < 32 → F j = -1) → qm_R K K F (fun _ => 0) (fun _ => 0) 0 u' → post u') : wpX_init post mc ms (0, 0, 0, 0, 0) x x := by
  unfold wpX_init
  refine ⟨by omega, by omega, by omega, by omega, by omega, by omega, by omega, by omega, by omega, by omega, by omega, by omega, by omega, by omega, by omega, by omega, by omega, by omega, by omega, by omega, ?_⟩
  unfold wX_init_100
  by_cases h1 : 1 ≤ x
  · by_cases h2 : x ≤ 4
    · obtain ⟨j, hj, e⟩ : ∃ j : Nat, j ≤ 4 ∧ x = nI j := by
        refine nI_of2 (M := 4) (by decide) (fun z => ?_) h2
        have a1 := Int32.le_iff_toInt_le.mp h1
        have a2 := Int32.lt_iff_toInt_lt.mp z
        rw [show (1 : Int32).toInt = 1 from by decide] at a1
        rw [show (0 : Int32).toInt = 0 from by decide] at a2
        omega
      have hj0 : 0 < j := by
        rcases Nat.eq_zero_or_pos j with z | z
        · rw [e, z] at h1
          exact absurd h1 (by decide)
        · exact z
      exact br_t h1 (br_t h2 (br_t h1 (br_t h2 (qm_i128R e hj0 hj H))))
    · exact br_t h1 (br_f h2 (br_t h1 (br_f h2 (qm_i128R (K := 4) rfl (by omega) (by omega) H))))
  · exact br_f h1 (br_f h1 (qm_i128R (K := 1) rfl (by omega) (by omega) H))
end
theorem qm_cell {post : Int32 → Prop} {L : Nat} {xs : Nat → Int32} {y : Int32} {k : Nat} (hL : L ≤ 4) (hy : y = nI k) (hk : k < 4) (H : ∀ r, post r) : wpL_cellAt post L xs () y := by
  rw [hy]
  exact pk_le L k (fun _ => H _) (fun z => ⟨pk_in k L z, H _⟩)
theorem qm_fill {post : Int32 → Prop} {x : Nat} {a st : Int32} (hx : x < 64) (hp : post (qm_fi a st 8 x)) : wpL_filled post () (nI x - 16) a st := by
  unfold wpL_filled
  by_cases h : x < 16
  · rw [qm_fi_no (Or.inl h)] at hp
    exact br_t (pk_sneg (b := 16) (by omega) h) hp
  · have e : nI x - 16 = nI (x - 16) := pk_sub (b := 16) (by omega)
    rw [e]
    refine br_f (nI_pos (by omega)) (pk_le (x - 16) 15 (fun z => ?_) (fun z => ?_))
    · rw [qm_fi_in (by omega) (by omega)] at hp
      exact hp
    · rw [qm_fi_no (Or.inr (by omega))] at hp
      exact hp
theorem qm_wordU {post : Int32 → Prop} {w fr to cn : Nat} {a st : Int32} (hd : fr < to) (ht : to < 40) (hc : cn < 25) (hw : w < 64) (hp : post (qm_cp (qm_fi a st 8) fr to cn w)) : ∃ n, wL_word_11 post (nI to) (nI cn) a st (nI (to - fr)) n (nI w) 0 := by
  refine pk_loop (fun n i x => wL_word_11 post (nI to) (nI cn) a st (nI (to - fr)) n (nI x) (nI i)) (fun i x => x < 64 ∧ qm_cp (qm_fi a st 8) fr to cn x = qm_cp (qm_fi a st 8) fr to cn w ∧ (to ≤ x → x < to + cn → x + i ≤ w)) 64 0 w (by omega) ⟨hw, rfl, fun _ _ => by omega⟩ ?_ ?_
  · intro n x h
    refine pk_le 64 64 (fun _ => qm_fill h.1 ?_) (fun z => absurd z (by omega))
    have ho : x < to ∨ to + cn ≤ x := by
      have h3 := h.2.2
      have h1 := h.1
      omega
    rw [← qm_cp_out (qm_fi a st 8) fr to cn x ho, h.2.1]
    exact hp
  · intro n i x hi h hwn
    obtain ⟨h1, h2, h3⟩ := h
    refine pk_le 64 i (fun z => absurd z (by omega)) (fun _ => ?_)
    refine pk_lt x to (fun z => nm_r (nI_1 i) (hwn x ⟨h1, h2, fun y _ => absurd y (by omega)⟩)) (fun z1 => ?_)
    rw [nI_add to cn]
    refine pk_le (to + cn) x (fun z => nm_r (nI_1 i) (hwn x ⟨h1, h2, fun _ y => absurd y (by omega)⟩)) (fun z2 => ?_)
    have go := hwn (x - (to - fr)) ⟨by omega, by
      have q := qm_cp_up (M := qm_fi a st 8) (n := cn) (j := x - to) hd (by omega)
      rw [show to + (x - to) = x by omega, show fr + (x - to) = x - (to - fr) by omega] at q
      rw [← q, h2], fun _ _ => by
      have h4 := h3 z1 z2
      omega⟩
    refine pk_eq (to - fr) 0 (fun z => absurd z (by omega)) (fun _ => ?_)
    refine pk_eq i 0 (fun _ => ?_) (fun _ => pk_le (to - fr) 0 (fun z => absurd z (by omega)) (fun _ => ?_))
    · exact nm_r (pk_sub (by omega)) (nm_r (nI_1 i) go)
    · exact nm_r (pk_sub (by omega)) (nm_r (nI_1 i) go)
theorem qm_wordD {post : Int32 → Prop} {w fr to cn : Nat} {a st : Int32} (hd : to ≤ fr) (hf : fr < 40) (hc : cn < 25) (hw : w < 64) (hp : post (qm_cp (qm_fi a st 8) fr to cn w)) : ∃ n, wL_word_11 post (nI to) (nI cn) a st (nI to - nI fr) n (nI w) 0 := by
  have dle : nI to - nI fr ≤ 0 := by
    rw [Int32.le_iff_toInt_le, pk_sub_toInt (by omega) (by omega), show (0 : Int32).toInt = 0 from by decide]
    omega
  have deq : nI to - nI fr = 0 → to = fr := by
    intro e
    have e' := congrArg Int32.toInt e
    rw [pk_sub_toInt (by omega) (by omega), show (0 : Int32).toInt = 0 from by decide] at e'
    omega
  refine pk_loop (fun n i x => wL_word_11 post (nI to) (nI cn) a st (nI to - nI fr) n (nI x) (nI i)) (fun i x => x < 64 ∧ (i = 0 → x = w) ∧ (0 < i → qm_fi a st 8 x = qm_cp (qm_fi a st 8) fr to cn w)) 64 0 w (by omega) ⟨hw, fun _ => rfl, fun z => absurd z (by omega)⟩ ?_ ?_
  · intro n x h
    refine pk_le 64 64 (fun _ => qm_fill h.1 ?_) (fun z => absurd z (by omega))
    rw [h.2.2 (by omega)]
    exact hp
  · intro n i x hi h hwn
    obtain ⟨h1, h2, h3⟩ := h
    have keep : (i = 0 → qm_fi a st 8 w = qm_cp (qm_fi a st 8) fr to cn w) → wL_word_11 post (nI to) (nI cn) a st (nI to - nI fr) n (nI x) (nI (i + 1)) := by
      intro hk
      refine hwn x ⟨h1, fun z => absurd z (by omega), fun _ => ?_⟩
      rcases Nat.eq_zero_or_pos i with z | z
      · rw [h2 z]
        exact hk z
      · exact h3 z
    refine pk_le 64 i (fun z => absurd z (by omega)) (fun _ => ?_)
    refine pk_lt x to (fun z => nm_r (nI_1 i) (keep (fun z0 => ?_))) (fun z1 => ?_)
    · exact (qm_cp_out (qm_fi a st 8) fr to cn w (Or.inl (by rw [← h2 z0]; exact z))).symm
    · rw [nI_add to cn]
      refine pk_le (to + cn) x (fun z => nm_r (nI_1 i) (keep (fun z0 => ?_))) (fun z2 => ?_)
      · exact (qm_cp_out (qm_fi a st 8) fr to cn w (Or.inr (by rw [← h2 z0]; exact z))).symm
      · have q : i = 0 → qm_cp (qm_fi a st 8) fr to cn w = qm_fi a st 8 (fr + (x - to)) := by
          intro z0
          have q := qm_cp_dn (M := qm_fi a st 8) (n := cn) (j := x - to) hd (by omega)
          rw [show to + (x - to) = x by omega] at q
          rw [← h2 z0]
          exact q
        refine br_c (fun e => nm_r (nI_1 i) (keep (fun z0 => ?_))) (fun _ => pk_eq i 0 (fun z0 => ?_) (fun zn => br_t dle (nm_r (nI_1 i) (keep (fun z0 => absurd z0 zn)))))
        · rw [q z0, ← h2 z0]
          exact congrArg _ (by have := deq e; omega)
        · have ex : nI x - (nI to - nI fr) = nI (fr + (x - to)) := by
            rw [← nI_add, ← pk_sub z1]
            grind
          exact nm_r ex (nm_r (nI_1 i) (hwn _ ⟨by omega, fun z => absurd z (by omega), fun _ => (q z0).symm⟩))
theorem qm_word {post : Int32 → Prop} {w fr to cn : Nat} {a st : Int32} (hf : fr < 40) (ht : to < 40) (hc : cn < 25) (hw : w < 64) (hp : post (qm_cp (qm_fi a st 8) fr to cn w)) : wpL_word post () (nI w) (nI fr) (nI to) (nI cn) a st := by
  unfold wpL_word
  by_cases hd : fr < to
  · exact nm_r (pk_sub (by omega)) (qm_wordU hd ht hc hw hp)
  · exact nm_e (qm_wordD (by omega) hf hc hw hp)
end
section
/-- the entries as the law has set them -/
def qm_FW (F W : Nat → Int32) : Prop := F 0 = 3 ∧ F 3 = 3 ∧ F 7 = 2 ∧ W 0 = 1 ∧ W 3 = 0 ∧ W 7 = 1 ∧ ∀ j, 0 < j → j < 32 → j ≠ 3 → j ≠ 7 → F j = -1
section
variable {K C : Nat} {F W : Nat → Int32} {a st : Int32} {fr to cn : Nat} {post : Int32 → St0 → Prop} {mc ms q1 q2 : Nat}
theorem qm_l182 (hF : qm_FW F W) (hf : fr < 40) (ht : to < 40) (hc : cn < 25) (H : post 1 ()) : ∀ (n i : Nat) (la cu l0 kc nk lc : Int32) (a1 a2 a3 a4 a5 a6 a7 a8 a9 a10 : Nat → Int32), i ≤ 64 → 64 - i < n → qm_R K C F W (qm_cp (qm_fi a st 8) fr to cn) la (cu, l0, kc, nk, lc, a1, a2, a3, a4, a5, a6, a7, a8, a9, a10) → wL_lawOf_182 post mc ms a st (nI fr) (nI to) (nI cn) q1 q2 n (nI i) cu l0 kc nk lc a1 a2 a3 a4 a5 a6 a7 a8 a9 a10 := by
  obtain ⟨f0, f3, f7, w0, w3, w7, fo⟩ := hF
  intro n
  induction n with
  | zero => intros; omega
  | succ n ih =>
    intro i la cu l0 kc nk lc a1 a2 a3 a4 a5 a6 a7 a8 a9 a10 hi hn h
    refine pk_le 64 i (fun _ => ?_) (fun z => ?_)
    · refine qm_map (p := 7) (f := 3) h rfl rfl (by omega) (by omega) (Or.inr rfl) (fun e => absurd (f7.symm.trans e) (by decide)) (fun _ => ?_)
      rintro ⟨cu', l0', kc', nk', lc', a1', a2', a3', a4', a5', a6', a7', a8', a9', a10'⟩ h1
      refine br_t rfl ?_
      refine qm_load (p := 7) (j := 0) (f := 3) h1 rfl (by omega) (by omega) (by omega) pk_us ?_
      rintro ⟨cu'', l0'', kc'', nk'', lc'', a1'', a2'', a3'', a4'', a5'', a6'', a7'', a8'', a9'', a10''⟩ h2
      refine br_t rfl ?_
      refine qm_dread (w := 24) h2 (by omega) ?_
      refine br_t h2.2.1.symm ?_
      refine qm_unmap (p := 7) (f := 3) h2 rfl (by omega) (by omega) pk_us ?_
      rintro ⟨cu''', l0''', kc''', nk''', lc''', a1''', a2''', a3''', a4''', a5''', a6''', a7''', a8''', a9''', a10'''⟩ h3
      refine br_t rfl ?_
      refine qm_loadN (p := 7) (j := 1) h3 rfl (by omega) (by omega) pk_us (br_t rfl ?_)
      refine qm_unmapN (p := 7) h3 rfl (by omega) pk_us (br_t rfl ?_)
      refine qm_dcopyB hf ht (br_t rfl ?_)
      refine qm_prot h3 (fun j j0 j32 => ?_) ?_ ?_ ?_
      · by_cases q7 : j = 7
        · rw [q7, pk_us]
          exact Or.inl (by decide)
        · by_cases q3 : j = 3
          · rw [q3, pk_un (show (3 : Nat) ≠ 7 by omega)]
            exact Or.inr w3
          · rw [pk_un q7, pk_un q7, fo j j0 j32 q3 q7]
            exact Or.inl (by decide)
      · rw [pk_un (by omega), pk_un (by omega), f0]
      · rw [pk_un (by omega), w0]
      · rintro ⟨cu'''', l0'''', kc'''', nk'''', lc'''', a1'''', a2'''', a3'''', a4'''', a5'''', a6'''', a7'''', a8'''', a9'''', a10''''⟩ h4
        refine br_t rfl ?_
        refine qm_addR (p := 0) (j := 0) (f := 3) h4 rfl (by omega) (by omega) (by omega) ?_ pk_us ?_
        · rw [pk_un (by omega), pk_un (by omega), f0]
          rfl
        · rintro ⟨cu''''', l0''''', kc''''', nk''''', lc''''', a1''''', a2''''', a3''''', a4''''', a5''''', a6''''', a7''''', a8''''', a9''''', a10'''''⟩ h5
          exact br_t rfl H
    · refine qm_word hf ht hc z ?_
      refine qm_dread h z ?_
      refine br_t rfl ?_
      refine pk_lt i 24 (fun _ => nm_r (nI_1 i) (ih (i + 1) la cu l0 kc nk lc a1 a2 a3 a4 a5 a6 a7 a8 a9 a10 (by omega) (by omega) h)) (fun g1 => pk_le 32 i (fun _ => nm_r (nI_1 i) (ih (i + 1) la cu l0 kc nk lc a1 a2 a3 a4 a5 a6 a7 a8 a9 a10 (by omega) (by omega) h)) (fun g2 => ?_))
      have e8 : 8 * 3 + (i - 24) = i := by omega
      refine qm_load (p := 3) (j := i - 24) (f := 3) h (by rw [e8]) (by omega) (by omega) (by omega) f3 ?_
      rw [e8]
      rintro ⟨cu', l0', kc', nk', lc', a1', a2', a3', a4', a5', a6', a7', a8', a9', a10'⟩ h1
      refine br_t rfl ?_
      refine br_t h1.2.1 ?_
      refine qm_load (p := 0) (j := i - 24) (f := 3) h1 ((pk_sub (b := 24) g1).trans (congrArg nI (by omega))) (by omega) (by omega) (by omega) f0 ?_
      rw [e8]
      rintro ⟨cu'', l0'', kc'', nk'', lc'', a1'', a2'', a3'', a4'', a5'', a6'', a7'', a8'', a9'', a10''⟩ h2
      refine br_t rfl ?_
      refine br_t h2.2.1 ?_
      exact nm_r (nI_1 i) (ih (i + 1) _ cu'' l0'' kc'' nk'' lc'' a1'' a2'' a3'' a4'' a5'' a6'' a7'' a8'' a9'' a10'' (by omega) (by omega) h2)
theorem qm_l89 (hF : qm_FW F W) (hf : fr < 40) (ht : to < 40) (hc : cn < 25) (H : post 1 ()) : ∀ (n i : Nat) (la cu l0 kc nk lc : Int32) (a1 a2 a3 a4 a5 a6 a7 a8 a9 a10 : Nat → Int32), i ≤ 8 → 8 - i < n → qm_R K C F W (qm_fi a st i) la (cu, l0, kc, nk, lc, a1, a2, a3, a4, a5, a6, a7, a8, a9, a10) → wL_lawOf_89 post mc ms a st (nI fr) (nI to) (nI cn) q1 q2 n (nI i) cu l0 kc nk lc a1 a2 a3 a4 a5 a6 a7 a8 a9 a10 := by
  have hF' := hF
  obtain ⟨f0, f3, f7, w0, w3, w7, fo⟩ := hF'
  intro n
  induction n with
  | zero => intros; omega
  | succ n ih =>
    intro i la cu l0 kc nk lc a1 a2 a3 a4 a5 a6 a7 a8 a9 a10 hi hn h
    refine pk_le 8 i (fun z => ?_) (fun z => ?_)
    · have e : i = 8 := by omega
      rw [e] at h
      refine qm_dcopy h (by omega) (by omega) ?_
      rintro ⟨cu', l0', kc', nk', lc', a1', a2', a3', a4', a5', a6', a7', a8', a9', a10'⟩ h1
      exact br_t rfl ⟨65, qm_l182 hF hf ht hc H 65 0 la cu' l0' kc' nk' lc' a1' a2' a3' a4' a5' a6' a7' a8' a9' a10' (by omega) (by omega) h1⟩
    · have e8 : (8 : Int32) + nI i = nI (8 + i) := nI_add 8 i
      rw [e8]
      refine qm_storeW (p := 7) (j := i) (f := 2) h (nI_add 56 i) (by omega) z (by omega) f7 w7 ?_
      rintro ⟨cu', l0', kc', nk', lc', a1', a2', a3', a4', a5', a6', a7', a8', a9', a10'⟩ h1
      refine br_t rfl ?_
      refine qm_storeW (p := 0) (j := i) (f := 3) h1 (congrArg nI (by omega)) (by omega) z (by omega) f0 w0 ?_
      rintro ⟨cu'', l0'', kc'', nk'', lc'', a1'', a2'', a3'', a4'', a5'', a6'', a7'', a8'', a9'', a10''⟩ h2
      refine br_t rfl ?_
      refine qm_storeR (p := 3) (j := i) (f := 3) h2 (nI_add 24 i) (by omega) z (by omega) f3 w3 ?_
      rintro ⟨cu''', l0''', kc''', nk''', lc''', a1''', a2''', a3''', a4''', a5''', a6''', a7''', a8''', a9''', a10'''⟩ h3
      refine br_t rfl (nm_r (nI_1 i) (ih (i + 1) la cu''' l0''' kc''' nk''' lc''' a1''' a2''' a3''' a4''' a5''' a6''' a7''' a8''' a9''' a10''' (by omega) (by omega) ?_))
      rw [← qm_fi_s z]
      exact h3
end
theorem qm_lawOf {post : Int32 → St0 → Prop} {x a st sh : Int32} (H : post 1 ()) : wpL_lawOf post 92 1456 () x a st sh := by
  obtain ⟨j1, hj1, e1⟩ := pk_andE sh (m := 255) 8 (by decide)
  obtain ⟨j2, hj2, e2⟩ := pk_andE (sh >>> ((8 : Int32) &&& 31)) (m := 255) 8 (by decide)
  obtain ⟨j3, hj3, e3⟩ := pk_andE (sh >>> ((16 : Int32) &&& 31)) (m := 255) 8 (by decide)
  have r1 : nI j1 - nI j1 / 40 * 40 = nI (j1 % 40) := pk_rem (d := 40) (by omega) (by omega) (by omega)
  have r2 : nI j2 - nI j2 / 40 * 40 = nI (j2 % 40) := pk_rem (d := 40) (by omega) (by omega) (by omega)
  have r3 : nI j3 - nI j3 / 25 * 25 = nI (j3 % 25) := pk_rem (d := 25) (by omega) (by omega) (by omega)
  unfold wpL_lawOf
  rw [e1, e2, e3]
  refine ⟨by decide, nm_r r1 ⟨by decide, nm_r r2 ⟨by decide, nm_r r3 ⟨by omega, by omega, 10, 192, by omega, by omega, ?_⟩⟩⟩⟩
  refine qm_init (by omega) (by omega) ?_
  rintro K F ⟨cu, l0, kc, nk, lc, a1, a2, a3, a4, a5, a6, a7, a8, a9, a10⟩ hF0 h
  refine qm_map (p := 7) (f := 2) h rfl rfl (by omega) (by omega) (Or.inr rfl) (fun _ => ?_) (fun e => absurd (hF0 7 (by omega)) e)
  rintro ⟨cu', l0', kc', nk', lc', a1', a2', a3', a4', a5', a6', a7', a8', a9', a10'⟩ h1
  refine br_t rfl ?_
  refine qm_map (p := 0) (f := 3) h1 rfl rfl (by omega) (by omega) (Or.inr rfl) (fun _ => ?_) (fun e => absurd (by rw [pk_un (by omega), hF0 0 (by omega)]) e)
  rintro ⟨cu'', l0'', kc'', nk'', lc'', a1'', a2'', a3'', a4'', a5'', a6'', a7'', a8'', a9'', a10''⟩ h2
  refine br_t rfl ?_
  refine qm_map (p := 3) (f := 3) h2 rfl rfl (by omega) (by omega) (Or.inl rfl) (fun _ => ?_) (fun e => absurd (by rw [pk_un (by omega), pk_un (by omega), hF0 3 (by omega)]) e)
  rintro ⟨cu''', l0''', kc''', nk''', lc''', a1''', a2''', a3''', a4''', a5''', a6''', a7''', a8''', a9''', a10'''⟩ h3
  refine br_t rfl ⟨9, qm_l89 ?_ (by omega) (by omega) (by omega) H 9 0 0 cu''' l0''' kc''' nk''' lc''' a1''' a2''' a3''' a4''' a5''' a6''' a7''' a8''' a9''' a10''' (by omega) (by omega) (by rw [qm_fi_0]; exact h3)⟩
  refine ⟨?_, pk_us, ?_, ?_, pk_us, ?_, fun j j0 j32 n3 n7 => ?_⟩
  · rw [pk_un (by omega), pk_us]
    rfl
  · rw [pk_un (by omega), pk_un (by omega), pk_us]
    rfl
  · rw [pk_un (by omega), pk_us]
  · rw [pk_un (by omega), pk_un (by omega), pk_us]
  · rw [pk_un n3, pk_un (by omega), pk_un n7, hF0 j j32]
theorem i_vc (xs : Nat → Int32) (L : Nat) (hL : L ≤ 4) : wpL_law (fun r => r = 1) L xs := by
  unfold wpL_law
  exact qm_cell (k := 0) hL rfl (by omega) (fun _ => qm_cell (k := 1) hL rfl (by omega) (fun _ => qm_cell (k := 2) hL rfl (by omega) (fun _ => qm_cell (k := 3) hL rfl (by omega) (fun _ => ⟨92, 1456, by omega, by omega, qm_lawOf rfl⟩))))
end
